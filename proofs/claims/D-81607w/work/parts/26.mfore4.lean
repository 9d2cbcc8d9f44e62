set_option maxRecDepth 100000
/-! THE REFERENCE: fits, drawn, pace -/
set_option maxHeartbeats 4000000 in
theorem met_X4_fits (l : Launch) (D : va_G) (B0 : Nat) (A : Nat → Prop) (o : Nat) (ad : Nat → Nat) (x : Nat → Int32) (sz : Nat → Int32) (it : Nat → Int32) (c : Nat → Int32) (th : Nat → Int32) (wn : Nat → Int32) (n : Nat) (k : Nat) (r : Int32) (row : Int32) (i : Int32) (m : Int32) (w : Int32) (hsz : ∀ q : Nat, q < 8 → sz q ≤ 40) (hn : c 17 = nI n) (hn7 : n ≤ 7) (hk : c 16 = nI k) (hk12 : k ≤ 12) (hk1 : 0 < n → 1 ≤ k) : Met l yX4_fits (ws_ yX4_fits cX4_fits 14 (some .int)) (zRm 6 0 0) (va_Pc [.ref o, .int r, .int row, .int i, .int m, .int w] (zPre B0 D A [mOb o ad x, [(ad 0, .inl (D.1 100, 8, .inl sz))], [(ad 2, .inl (D.1 100, 320, .inl it))], [(ad 5, .inl (D.1 100, 25, .inl c))], [(ad 10, .inl (D.1 100, 25, .inl th))], [(ad 11, .inl (D.1 100, 25, .inl wn))]])) (zQ (S := Int32 × (Nat → Int32) × (Nat → Int32) × (Nat → Int32)) (fun u => (fun (r_ : Int32) (x1 : Nat → Int32) (th1 : Nat → Int32) (wn1 : Nat → Int32) => (r_, x1) = mFits n k x sz it c r row i m w) u.1 u.2.1 u.2.2.1 u.2.2.2) (fun u => (fun (r_ : Int32) (x1 : Nat → Int32) (th1 : Nat → Int32) (wn1 : Nat → Int32) => some (.int r_)) u.1 u.2.1 u.2.2.1 u.2.2.2) (fun u => (fun (r_ : Int32) (x1 : Nat → Int32) (th1 : Nat → Int32) (wn1 : Nat → Int32) => [mOb o ad x1, [(ad 0, .inl (D.1 100, 8, .inl sz))], [(ad 2, .inl (D.1 100, 320, .inl it))], [(ad 5, .inl (D.1 100, 25, .inl c))], [(ad 10, .inl (D.1 100, 25, .inl th1))], [(ad 11, .inl (D.1 100, 25, .inl wn1))]]) u.1 u.2.1 u.2.2.1 u.2.2.2) D A) 0 0 A := by
  refine z_entry (by decide +kernel) (Nat.le_of_ble_eq_true rfl) (fun pX eX sX mX argsX blX mtX cX QX hQX gX hAX hnm => ?_)
  refine z_eq (lv₂ := [(0, .ref o), (1, .int r), (2, .int row), (3, .int i), (4, .int m), (5, .int w)]) (st₂ := []) ?_ rfl rfl
  refine z_aload_n (pc := 0) gX 0 dX4_fits_0 rfl rfl ?_
  refine z_iload_n (pc := 1) gX 1 dX4_fits_1 rfl rfl ?_
  refine z_cOV (pc := 2) gX (zI_ok gX hAX) [.int r] [] [0, 3] (met_X4_isRider l D B0 o ad x c r ) q1564 q1566 qs38 q54 q1567 (zm 0 rfl) (ci := 4) rfl rfl hd_X4_isRider ⟨rfl, rfl⟩ ⟨(Nat.le_of_ble_eq_true rfl), (Nat.le_of_ble_eq_true rfl)⟩ rfl rfl rfl (Nat.le_of_ble_eq_true rfl) ⟨(Nat.le_of_ble_eq_true rfl), (Nat.le_of_ble_eq_true rfl)⟩ dX4_fits_2 ?_
  intro _ hu2
  refine z_eq (lv₂ := [(0, .ref o), (1, .int r), (2, .int row), (3, .int i), (4, .int m), (5, .int w)]) (st₂ := [.int (bI (mIn r 0 (c 17 - 1)))]) ?_ rfl rfl
  refine z_if_eq (pc := 5) gX 36 dX4_fits_5 (by decide) (fun c5 => ?_) (fun c5 => ?_)
  · skip
    have k5 : (mIn r 0 (c 17 - 1)) = false := bI_eq0 c5
    refine z_ldc (pc := 36) gX q1455 dX4_fits_36 ?_
    exact z_rim gX hQX ((-1000001), x, th, wn) (by simp [mFits, k5]) rfl rfl (by first | decide | omega) (by first | decide | omega) dX4_fits_38
  · skip
    have k5 : (mIn r 0 (c 17 - 1)) = true := bI_ne0 c5
    obtain ⟨j, hjn, rfl⟩ := riderN k5 hn hn7
    refine z_iload_n (pc := 8) gX 2 dX4_fits_8 rfl rfl ?_
    refine z_cOS (pc := 9) gX (zI_ok gX hAX) [.int row] [] [] (met_X4_isRow l D B0 row ) q1449 q1450 q54 q1451 hd_X4_isRow ⟨rfl, rfl⟩ ⟨(Nat.le_of_ble_eq_true rfl), (Nat.le_of_ble_eq_true rfl)⟩ rfl rfl rfl (Nat.le_of_ble_eq_true rfl) ⟨(Nat.le_of_ble_eq_true rfl), (Nat.le_of_ble_eq_true rfl)⟩ dX4_fits_9 ?_
    intro _ hu9
    refine z_eq (lv₂ := [(0, .ref o), (1, .int (nI j)), (2, .int row), (3, .int i), (4, .int m), (5, .int w)]) (st₂ := [.int (bI (mIn row 0 7))]) ?_ rfl rfl
    refine z_if_eq (pc := 12) gX 36 dX4_fits_12 (by decide) (fun c12 => ?_) (fun c12 => ?_)
    · skip
      have k12 : (mIn row 0 7) = false := bI_eq0 c12
      refine z_ldc (pc := 36) gX q1455 dX4_fits_36 ?_
      exact z_rim gX hQX ((-1000001), x, th, wn) (by simp [mFits, k5, k12]) rfl rfl (by first | decide | omega) (by first | decide | omega) dX4_fits_38
    · skip
      have k12 : (mIn row 0 7) = true := bI_ne0 c12
      obtain ⟨q, hq7, rfl⟩ := mIn_nat k12 7 (by decide)
      refine z_iload (pc := 15) gX 4 dX4_fits_15 rfl ?_
      refine z_iconst (pc := 17) gX 1 dX4_fits_17 (by decide) ?_
      refine z_bipush (pc := 18) gX 12 dX4_fits_18 (by decide) ?_
      refine z_cOS (pc := 20) gX (zI_ok gX hAX) [.int m, .int 1, .int 12] [] [] (met_X4_in l D B0 m 1 12 ) q1452 q1453 q54 q1454 hd_X4_in ⟨rfl, rfl⟩ ⟨(Nat.le_of_ble_eq_true rfl), (Nat.le_of_ble_eq_true rfl)⟩ rfl rfl rfl (Nat.le_of_ble_eq_true rfl) ⟨(Nat.le_of_ble_eq_true rfl), (Nat.le_of_ble_eq_true rfl)⟩ dX4_fits_20 ?_
      intro _ hu20
      refine z_eq (lv₂ := [(0, .ref o), (1, .int (nI j)), (2, .int (nI q)), (3, .int i), (4, .int m), (5, .int w)]) (st₂ := [.int (bI (mIn m 1 12))]) ?_ rfl rfl
      refine z_if_eq (pc := 23) gX 36 dX4_fits_23 (by decide) (fun c23 => ?_) (fun c23 => ?_)
      · skip
        have k23 : (mIn m 1 12) = false := bI_eq0 c23
        refine z_ldc (pc := 36) gX q1455 dX4_fits_36 ?_
        exact z_rim gX hQX ((-1000001), x, th, wn) (by simp [mFits, k5, k12, k23]) rfl rfl (by first | decide | omega) (by first | decide | omega) dX4_fits_38
      · skip
        have k23 : (mIn m 1 12) = true := bI_ne0 c23
        obtain ⟨mm, hmm, rfl⟩ := mIn_nat1 k23 12 (by decide)
        refine z_iload (pc := 26) gX 5 dX4_fits_26 rfl ?_
        refine z_iconst (pc := 28) gX 0 dX4_fits_28 (by decide) ?_
        refine z_iconst (pc := 29) gX 3 dX4_fits_29 (by decide) ?_
        refine z_cOS (pc := 30) gX (zI_ok gX hAX) [.int w, .int 0, .int 3] [] [] (met_X4_in l D B0 w 0 3 ) q1452 q1453 q54 q1454 hd_X4_in ⟨rfl, rfl⟩ ⟨(Nat.le_of_ble_eq_true rfl), (Nat.le_of_ble_eq_true rfl)⟩ rfl rfl rfl (Nat.le_of_ble_eq_true rfl) ⟨(Nat.le_of_ble_eq_true rfl), (Nat.le_of_ble_eq_true rfl)⟩ dX4_fits_30 ?_
        intro _ hu30
        refine z_eq (lv₂ := [(0, .ref o), (1, .int (nI j)), (2, .int (nI q)), (3, .int i), (4, .int (nI mm)), (5, .int w)]) (st₂ := [.int (bI (mIn w 0 3))]) ?_ rfl rfl
        refine z_if_ne (pc := 33) gX 39 dX4_fits_33 (by decide) (fun c33 => ?_) (fun c33 => ?_)
        · skip
          have k33 : (mIn w 0 3) = true := bI_ne0 c33
          obtain ⟨ww, hww, rfl⟩ := mIn_nat k33 3 (by decide)
          rcases (show ww = 0 ∨ ww = 1 ∨ ww = 2 ∨ ww = 3 by omega) with rfl | rfl | rfl | rfl
          · skip
            refine z_aload_n (pc := 39) gX 0 dX4_fits_39 rfl rfl ?_
            refine z_get (pc := 40) gX (zI_ok gX hAX) (zm 0 rfl) (ci := 4) (C := RX4) (T := TX4) (N := 20) rfl in_X4 0 (by decide) q1383 (fun _ h => h) (v := .ref (ad 0)) rfl dX4_fits_40 ?_
            refine z_iload_n (pc := 43) gX 2 dX4_fits_43 rfl rfl ?_
            refine z_iald (pc := 44) gX (zI_ok gX hAX) (j := q) (n := 8) (f := sz) (zm 1 rfl) (by omega) (by decide) dX4_fits_44 ?_
            refine z_if_ge (pc := 45) gX 55 dX4_fits_45 (by decide) (fun c45 => ?_) (fun c45 => ?_)
            · skip
              refine z_aload_n (pc := 55) gX 0 dX4_fits_55 rfl rfl ?_
              refine z_iload_n (pc := 56) gX 2 dX4_fits_56 rfl rfl ?_
              refine z_iload_n (pc := 57) gX 3 dX4_fits_57 rfl rfl ?_
              refine z_iload (pc := 58) gX 4 dX4_fits_58 rfl ?_
              refine z_cOV (pc := 60) gX (zI_ok gX hAX) [.int (nI q), .int i, .int (nI mm)] [] [0, 1] (met_X4_lies l D B0 o ad x sz q i (nI mm) (by first | assumption | omega)) q1468 q1470 qs29 q54 q1471 (zm 0 rfl) (ci := 4) rfl rfl hd_X4_lies ⟨rfl, rfl⟩ ⟨(Nat.le_of_ble_eq_true rfl), (Nat.le_of_ble_eq_true rfl)⟩ rfl rfl rfl (Nat.le_of_ble_eq_true rfl) ⟨(Nat.le_of_ble_eq_true rfl), (Nat.le_of_ble_eq_true rfl)⟩ dX4_fits_60 ?_
              intro _ hu60
              refine z_eq (lv₂ := [(0, .ref o), (1, .int (nI j)), (2, .int (nI q)), (3, .int i), (4, .int (nI mm)), (5, .int 0)]) (st₂ := [.int (bI (mLies (sz q) i (nI mm)))]) ?_ rfl rfl
              refine z_if_ne (pc := 63) gX 73 dX4_fits_63 (by decide) (fun c63 => ?_) (fun c63 => ?_)
              · skip
                have k63 : (mLies (sz q) i (nI mm)) = true := bI_ne0 c63
                obtain ⟨a, b, m0, hai, hb1, hzm, hab, hm⟩ := mLies_nat k63 (hsz q (by omega))
                subst hai
                have hbm := (zn_eq (by omega) (by omega)).mp hb1
                subst hbm
                have hk1 := hk1 (by omega)
                refine z_iconst (pc := 73) gX 0 dX4_fits_73 (by decide) ?_
                refine z_istore (pc := 74) gX [1, 2, 3, 4, 5, 6, 0] [(0, .ref o), (1, .int (nI j)), (2, .int (nI q)), (3, .int (nI a)), (4, .int (nI mm)), (5, .int 0), (6, .int 0)] dX4_fits_74 (by decide) rfl ?_
                refine z_bipush (pc := 76) gX 40 dX4_fits_76 (by decide) ?_
                refine z_iload_n (pc := 78) gX 2 dX4_fits_78 rfl rfl ?_
                refine z_imul (pc := 79) gX dX4_fits_79 ?_
                refine z_top (nI (40 * q)) (pk_mul 40 q) ?_
                refine z_iload_n (pc := 80) gX 3 dX4_fits_80 rfl rfl ?_
                refine z_iadd (pc := 81) gX dX4_fits_81 ?_
                refine z_top (nI (40 * q + a)) (nI_add (40 * q) a) ?_
                refine z_istore (pc := 82) gX [1, 2, 3, 4, 5, 6, 7, 0] [(0, .ref o), (1, .int (nI j)), (2, .int (nI q)), (3, .int (nI a)), (4, .int (nI mm)), (5, .int 0), (6, .int 0), (7, .int (nI (40 * q + a)))] dX4_fits_82 (by decide) rfl ?_
                refine z_iload (pc := 84) gX 5 dX4_fits_84 rfl ?_
                refine z_if_ne (pc := 86) gX 93 dX4_fits_86 (by decide) (fun c86 => ?_) (fun c86 => ?_)
                · skip
                  exact absurd c86 (by decide)
                · skip
                  refine z_iconst (pc := 89) gX 1 dX4_fits_89 (by decide) ?_
                  refine z_goto (pc := 90) gX 94 dX4_fits_90 (by decide) ?_
                  refine z_istore (pc := 94) gX [1, 2, 3, 4, 5, 6, 7, 8, 0] [(0, .ref o), (1, .int (nI j)), (2, .int (nI q)), (3, .int (nI a)), (4, .int (nI mm)), (5, .int 0), (6, .int 0), (7, .int (nI (40 * q + a))), (8, .int 1)] dX4_fits_94 (by decide) rfl ?_
                  refine z_iload (pc := 96) gX 5 dX4_fits_96 rfl ?_
                  refine z_if_ne (pc := 98) gX 105 dX4_fits_98 (by decide) (fun c98 => ?_) (fun c98 => ?_)
                  · skip
                    exact absurd c98 (by decide)
                  · skip
                    refine z_iconst (pc := 101) gX 5 dX4_fits_101 (by decide) ?_
                    refine z_goto (pc := 102) gX 134 dX4_fits_102 (by decide) ?_
                    refine z_istore (pc := 134) gX [1, 2, 3, 4, 5, 6, 7, 8, 9, 0] [(0, .ref o), (1, .int (nI j)), (2, .int (nI q)), (3, .int (nI a)), (4, .int (nI mm)), (5, .int 0), (6, .int 0), (7, .int (nI (40 * q + a))), (8, .int 1), (9, .int 5)] dX4_fits_134 (by decide) rfl ?_
                    refine z_aload_n (pc := 136) gX 0 dX4_fits_136 rfl rfl ?_
                    refine z_get (pc := 137) gX (zI_ok gX hAX) (zm 0 rfl) (ci := 4) (C := RX4) (T := TX4) (N := 20) rfl in_X4 8 (by decide) q1391 (fun _ h => h) (v := .ref (ad 5)) rfl dX4_fits_137 ?_
                    refine z_iconst (pc := 140) gX 2 dX4_fits_140 (by decide) ?_
                    refine z_iload_n (pc := 141) gX 1 dX4_fits_141 rfl rfl ?_
                    refine z_iadd (pc := 142) gX dX4_fits_142 ?_
                    refine z_top (nI (2 + j)) (nI_add 2 j) ?_
                    refine z_iald (pc := 143) gX (zI_ok gX hAX) (j := (2 + j)) (n := 25) (f := c) (zm 3 rfl) (by omega) (by decide) dX4_fits_143 ?_
                    refine z_cOS (pc := 144) gX (zI_ok gX hAX) [.int (c (2 + j))] [] [] (met_X4_isOn l D B0 (c (2 + j)) ) q1550 q1551 q54 q1552 hd_X4_isOn ⟨rfl, rfl⟩ ⟨(Nat.le_of_ble_eq_true rfl), (Nat.le_of_ble_eq_true rfl)⟩ rfl rfl rfl (Nat.le_of_ble_eq_true rfl) ⟨(Nat.le_of_ble_eq_true rfl), (Nat.le_of_ble_eq_true rfl)⟩ dX4_fits_144 ?_
                    intro _ hu144
                    refine z_eq (lv₂ := [(0, .ref o), (1, .int (nI j)), (2, .int (nI q)), (3, .int (nI a)), (4, .int (nI mm)), (5, .int 0), (6, .int 0), (7, .int (nI (40 * q + a))), (8, .int 1), (9, .int 5)]) (st₂ := [.int (bI (mOn (c (2 + j))))]) ?_ rfl rfl
                    refine z_istore (pc := 147) gX [1, 2, 3, 4, 5, 6, 7, 8, 9, 10, 0] [(0, .ref o), (1, .int (nI j)), (2, .int (nI q)), (3, .int (nI a)), (4, .int (nI mm)), (5, .int 0), (6, .int 0), (7, .int (nI (40 * q + a))), (8, .int 1), (9, .int 5), (10, .int (bI (mOn (c (2 + j)))))] dX4_fits_147 (by decide) rfl ?_
                    refine z_iload (pc := 149) gX 8 dX4_fits_149 rfl ?_
                    refine z_istore (pc := 151) gX [1, 2, 3, 4, 5, 6, 7, 8, 9, 10, 11, 0] [(0, .ref o), (1, .int (nI j)), (2, .int (nI q)), (3, .int (nI a)), (4, .int (nI mm)), (5, .int 0), (6, .int 0), (7, .int (nI (40 * q + a))), (8, .int 1), (9, .int 5), (10, .int (bI (mOn (c (2 + j))))), (11, .int 1)] dX4_fits_151 (by decide) rfl ?_
                    have L153 : ∀ (n153 : Nat) (v : Nat) (set : Int32) (t2 : Nat → Int32) (w2 : Nat → Int32), (1 ≤ v) → (v ≤ 6) → (set = orG (ftF 0 n k c j it (40 * q + a) mm) 1 (v - 1)) → 6 - v < n153 → zJ pX l eX (zRm 6 0 0) sX mX argsX blX mtX cX QX 14 (zI D A sX [mOb o ad x, [(ad 0, .inl (D.1 100, 8, .inl sz))], [(ad 2, .inl (D.1 100, 320, .inl it))], [(ad 5, .inl (D.1 100, 25, .inl c))], [(ad 10, .inl (D.1 100, 25, .inl t2))], [(ad 11, .inl (D.1 100, 25, .inl w2))]]) 0 0 153 [(0, .ref o), (1, .int (nI j)), (2, .int (nI q)), (3, .int (nI a)), (4, .int (nI mm)), (5, .int 0), (6, .int set), (7, .int (nI (40 * q + a))), (8, .int 1), (9, .int 5), (10, .int (bI (mOn (c (2 + j))))), (11, .int (nI v))] [] := by
                      intro n153
                      induction n153 with
                      | zero => exact fun v set t2 w2 hlo hhi hv hm153 => absurd hm153 (Nat.not_lt_zero _)
                      | succ n153 ih153 =>
                        intro v set t2 w2 hlo hhi hv hm153
                        refine z_iload (pc := 153) gX 11 dX4_fits_153 rfl ?_
                        refine z_iload (pc := 155) gX 9 dX4_fits_155 rfl ?_
                        refine z_icmp_gt (pc := 157) gX 289 dX4_fits_157 (by decide) (fun c157 => ?_) (fun c157 => ?_)
                        · skip
                          have k157 : 5 < v := (zn_lt (a := 5) (b := v) (by omega) (by omega)).mp c157
                          refine z_aload_n (pc := 289) gX 0 dX4_fits_289 rfl rfl ?_
                          refine z_iload (pc := 290) gX 6 dX4_fits_290 rfl ?_
                          refine z_cMV (pc := 292) gX hAX [.int set] [] [0] [1, 2, 3, 4, 5] (fun A1 => met_X4_ends l D B0 A1 o ad x set ) q1457 q1459 qs28 q54 q1460 (zm 0 rfl) (ci := 4) rfl rfl hd_X4_ends ⟨rfl, rfl⟩ ⟨(Nat.le_of_ble_eq_true rfl), (Nat.le_of_ble_eq_true rfl)⟩ rfl rfl rfl rfl rfl (Nat.le_of_ble_eq_true rfl) ⟨(Nat.le_of_ble_eq_true rfl), (Nat.le_of_ble_eq_true rfl)⟩ dX4_fits_292 ?_
                          intro _ hu292
                          refine z_re [0, 1, 2, 3, 4, 5] [mOb o ad (mSt x set), [(ad 0, .inl (D.1 100, 8, .inl sz))], [(ad 2, .inl (D.1 100, 320, .inl it))], [(ad 5, .inl (D.1 100, 25, .inl c))], [(ad 10, .inl (D.1 100, 25, .inl t2))], [(ad 11, .inl (D.1 100, 25, .inl w2))]] rfl rfl ?_
                          refine z_eq (lv₂ := [(0, .ref o), (1, .int (nI j)), (2, .int (nI q)), (3, .int (nI a)), (4, .int (nI mm)), (5, .int 0), (6, .int set), (7, .int (nI (40 * q + a))), (8, .int 1), (9, .int 5), (10, .int (bI (mOn (c (2 + j))))), (11, .int (nI v))]) (st₂ := [.int set]) ?_ rfl rfl
                          exact z_rim gX hQX (set, mSt x set, t2, w2) (by rw [hv, show v = 6 by omega]; simp only [mFits, k5, k12, k23, k33, Bool.and_self, if_true, if_neg (Int32.not_lt.mpr c45), nI_clamp (show q < 2 ^ 31 by omega), k63, nI_clamp (show j < 2 ^ 31 by omega), nI_clamp (show mm < 2 ^ 31 by omega), nI_clamp (show a < 2 ^ 31 by omega), nI_clamp (show 0 < 2 ^ 31 by omega)]; rfl) rfl rfl (by first | decide | omega) (by first | decide | omega) dX4_fits_295
                        · skip
                          have k157 : v ≤ 5 := (zn_nlt (a := 5) (b := v) (by omega) (by omega)).mp c157
                          refine z_aload_n (pc := 160) gX 0 dX4_fits_160 rfl rfl ?_
                          refine z_cMV (pc := 161) gX hAX [] [] [0, 3, 4] [1, 2, 5] (fun A1 => met_X4_starts l D B0 A1 o ad x c t2 ) q1592 q1594 qs39 q54 q1595 (zm 0 rfl) (ci := 4) rfl rfl hd_X4_starts ⟨rfl, rfl⟩ ⟨(Nat.le_of_ble_eq_true rfl), (Nat.le_of_ble_eq_true rfl)⟩ rfl rfl rfl rfl rfl (Nat.le_of_ble_eq_true rfl) ⟨(Nat.le_of_ble_eq_true rfl), (Nat.le_of_ble_eq_true rfl)⟩ dX4_fits_161 ?_
                          intro _ hu161
                          refine z_re [0, 3, 4, 1, 2, 5] [mOb o ad x, [(ad 0, .inl (D.1 100, 8, .inl sz))], [(ad 2, .inl (D.1 100, 320, .inl it))], [(ad 5, .inl (D.1 100, 25, .inl c))], [(ad 10, .inl (D.1 100, 25, .inl c))], [(ad 11, .inl (D.1 100, 25, .inl w2))]] rfl rfl ?_
                          refine z_eq (lv₂ := [(0, .ref o), (1, .int (nI j)), (2, .int (nI q)), (3, .int (nI a)), (4, .int (nI mm)), (5, .int 0), (6, .int set), (7, .int (nI (40 * q + a))), (8, .int 1), (9, .int 5), (10, .int (bI (mOn (c (2 + j))))), (11, .int (nI v))]) (st₂ := []) ?_ rfl rfl
                          refine z_iload (pc := 164) gX 5 dX4_fits_164 rfl ?_
                          refine z_if_ne (pc := 166) gX 176 dX4_fits_166 (by decide) (fun c166 => ?_) (fun c166 => ?_)
                          · skip
                            exact absurd c166 (by decide)
                          · skip
                            refine z_bipush (pc := 169) gX 18 dX4_fits_169 (by decide) ?_
                            refine z_iload_n (pc := 171) gX 1 dX4_fits_171 rfl rfl ?_
                            refine z_iadd (pc := 172) gX dX4_fits_172 ?_
                            refine z_top (nI (18 + j)) (nI_add 18 j) ?_
                            refine z_goto (pc := 173) gX 202 dX4_fits_173 (by decide) ?_
                            refine z_istore (pc := 202) gX [1, 2, 3, 4, 5, 6, 7, 8, 9, 10, 11, 12, 0] [(0, .ref o), (1, .int (nI j)), (2, .int (nI q)), (3, .int (nI a)), (4, .int (nI mm)), (5, .int 0), (6, .int set), (7, .int (nI (40 * q + a))), (8, .int 1), (9, .int 5), (10, .int (bI (mOn (c (2 + j))))), (11, .int (nI v)), (12, .int (nI (18 + j)))] dX4_fits_202 (by decide) rfl ?_
                            refine z_iload (pc := 204) gX 5 dX4_fits_204 rfl ?_
                            refine z_iconst (pc := 206) gX 3 dX4_fits_206 (by decide) ?_
                            refine z_icmp_lt (pc := 207) gX 237 dX4_fits_207 (by decide) (fun c207 => ?_) (fun c207 => ?_)
                            · skip
                              have k207 : 0 < 3 := (zn_lt (a := 0) (b := 3) (by omega) (by omega)).mp c207
                              refine z_iconst (pc := 237) gX 1 dX4_fits_237 (by decide) ?_
                              refine z_goto (pc := 238) gX 242 dX4_fits_238 (by decide) ?_
                              refine z_istore (pc := 242) gX [1, 2, 3, 4, 5, 6, 7, 8, 9, 10, 11, 12, 13, 0] [(0, .ref o), (1, .int (nI j)), (2, .int (nI q)), (3, .int (nI a)), (4, .int (nI mm)), (5, .int 0), (6, .int set), (7, .int (nI (40 * q + a))), (8, .int 1), (9, .int 5), (10, .int (bI (mOn (c (2 + j))))), (11, .int (nI v)), (12, .int (nI (18 + j))), (13, .int 1)] dX4_fits_242 (by decide) rfl ?_
                              refine z_aload_n (pc := 244) gX 0 dX4_fits_244 rfl rfl ?_
                              refine z_get (pc := 245) gX (zI_ok gX hAX) (zm 0 rfl) (ci := 4) (C := RX4) (T := TX4) (N := 20) rfl in_X4 14 (by decide) q1397 (fun _ h => h) (v := .ref (ad 10)) rfl dX4_fits_245 ?_
                              refine z_iload (pc := 248) gX 12 dX4_fits_248 rfl ?_
                              refine z_iload (pc := 250) gX 11 dX4_fits_250 rfl ?_
                              refine z_iast (pc := 252) gX hAX 4 (j := (18 + j)) (n := 25) (f := c) rfl (by omega) (by decide) [mOb o ad x, [(ad 0, .inl (D.1 100, 8, .inl sz))], [(ad 2, .inl (D.1 100, 320, .inl it))], [(ad 5, .inl (D.1 100, 25, .inl c))], [(ad 10, .inl (D.1 100, 25, .inl (upd c (18 + j) (nI v))))], [(ad 11, .inl (D.1 100, 25, .inl w2))]] rfl dX4_fits_252 ?_
                              refine z_iload (pc := 253) gX 6 dX4_fits_253 rfl ?_
                              refine z_iload (pc := 255) gX 13 dX4_fits_255 rfl ?_
                              refine z_if_eq (pc := 257) gX 279 dX4_fits_257 (by decide) (fun c257 => ?_) (fun c257 => ?_)
                              · skip
                                exact absurd c257 (by decide)
                              · skip
                                refine z_aload_n (pc := 260) gX 0 dX4_fits_260 rfl rfl ?_
                                refine z_iload_n (pc := 261) gX 1 dX4_fits_261 rfl rfl ?_
                                refine z_iload (pc := 262) gX 7 dX4_fits_262 rfl ?_
                                refine z_iload (pc := 264) gX 4 dX4_fits_264 rfl ?_
                                refine z_cMV (pc := 266) gX hAX [.int (nI j), .int (nI (40 * q + a)), .int (nI mm)] [.int set] [0, 2, 4, 5] [1, 3] (fun A1 => met_X4_isSo l D B0 A1 o ad x it (upd c (18 + j) (nI v)) w2 n k j (40 * q + a) mm (by rw [pk_un (by omega)]; exact hn) (by first | assumption | omega) (by rw [pk_un (by omega)]; exact hk) (by first | assumption | omega) (by first | assumption | omega) (by first | assumption | omega)) q1636 q1638 qs42 q54 q1639 (zm 0 rfl) (ci := 4) rfl rfl hd_X4_isSo ⟨rfl, rfl⟩ ⟨(Nat.le_of_ble_eq_true rfl), (Nat.le_of_ble_eq_true rfl)⟩ rfl rfl rfl rfl rfl (Nat.le_of_ble_eq_true rfl) ⟨(Nat.le_of_ble_eq_true rfl), (Nat.le_of_ble_eq_true rfl)⟩ dX4_fits_266 ?_
                                intro u266 hu266
                                obtain ⟨th1_266, wn1_266⟩ := u266
                                refine z_re [0, 4, 1, 5, 2, 3] [mOb o ad x, [(ad 0, .inl (D.1 100, 8, .inl sz))], [(ad 2, .inl (D.1 100, 320, .inl it))], [(ad 5, .inl (D.1 100, 25, .inl c))], [(ad 10, .inl (D.1 100, 25, .inl th1_266))], [(ad 11, .inl (D.1 100, 25, .inl wn1_266))]] rfl rfl ?_
                                refine z_eq (lv₂ := [(0, .ref o), (1, .int (nI j)), (2, .int (nI q)), (3, .int (nI a)), (4, .int (nI mm)), (5, .int 0), (6, .int set), (7, .int (nI (40 * q + a))), (8, .int 1), (9, .int 5), (10, .int (bI (mOn (c (2 + j))))), (11, .int (nI v)), (12, .int (nI (18 + j))), (13, .int 1)]) (st₂ := [.int (bI (soP n k (upd c (18 + j) (nI v)) j it (40 * q + a) mm)), .int set]) ?_ rfl rfl
                                refine z_if_eq (pc := 269) gX 279 dX4_fits_269 (by decide) (fun c269 => ?_) (fun c269 => ?_)
                                · skip
                                  have k269 : (soP n k (upd c (18 + j) (nI v)) j it (40 * q + a) mm) = false := bI_eq0 c269
                                  refine z_iconst (pc := 279) gX 0 dX4_fits_279 (by decide) ?_
                                  refine z_ior (pc := 280) gX dX4_fits_280 ?_
                                  refine z_istore (pc := 281) gX [1, 2, 3, 4, 5, 6, 0, 7, 8, 9, 10, 11, 12, 13] [(0, .ref o), (1, .int (nI j)), (2, .int (nI q)), (3, .int (nI a)), (4, .int (nI mm)), (5, .int 0), (6, .int (set ||| 0)), (7, .int (nI (40 * q + a))), (8, .int 1), (9, .int 5), (10, .int (bI (mOn (c (2 + j))))), (11, .int (nI v)), (12, .int (nI (18 + j))), (13, .int 1)] dX4_fits_281 (by decide) rfl ?_
                                  refine z_iinc (pc := 283) gX 11 (nI (v + 1)) [1, 2, 3, 4, 5, 6, 7, 8, 9, 10, 11, 0, 12, 13] [(0, .ref o), (1, .int (nI j)), (2, .int (nI q)), (3, .int (nI a)), (4, .int (nI mm)), (5, .int 0), (6, .int (set ||| 0)), (7, .int (nI (40 * q + a))), (8, .int 1), (9, .int 5), (10, .int (bI (mOn (c (2 + j))))), (11, .int (nI (v + 1))), (12, .int (nI (18 + j))), (13, .int 1)] dX4_fits_283 rfl (nI_1 _) (by decide) rfl ?_
                                  refine z_goto (pc := 286) gX 153 dX4_fits_286 (by decide) ?_
                                  refine z_lv [0, 1, 2, 3, 4, 5, 6, 7, 8, 9, 10, 11] [(0, .ref o), (1, .int (nI j)), (2, .int (nI q)), (3, .int (nI a)), (4, .int (nI mm)), (5, .int 0), (6, .int (set ||| 0)), (7, .int (nI (40 * q + a))), (8, .int 1), (9, .int 5), (10, .int (bI (mOn (c (2 + j))))), (11, .int (nI (v + 1)))] rfl ?_
                                  exact ih153 (v + 1) (set ||| 0) th1_266 wn1_266 (by omega) (by omega) (by rw [orG_s (by omega), ← hv]; congr 1; simp [ftF, mayW, layW, k269]) (by omega)
                                · skip
                                  have k269 : (soP n k (upd c (18 + j) (nI v)) j it (40 * q + a) mm) = true := bI_ne0 c269
                                  refine z_iconst (pc := 272) gX 1 dX4_fits_272 (by decide) ?_
                                  refine z_iload (pc := 273) gX 11 dX4_fits_273 rfl ?_
                                  refine z_ishl (pc := 275) gX dX4_fits_275 ?_
                                  refine z_goto (pc := 276) gX 280 dX4_fits_276 (by decide) ?_
                                  refine z_ior (pc := 280) gX dX4_fits_280 ?_
                                  refine z_istore (pc := 281) gX [1, 2, 3, 4, 5, 6, 0, 7, 8, 9, 10, 11, 12, 13] [(0, .ref o), (1, .int (nI j)), (2, .int (nI q)), (3, .int (nI a)), (4, .int (nI mm)), (5, .int 0), (6, .int (set ||| (1 <<< ((nI v) &&& 31)))), (7, .int (nI (40 * q + a))), (8, .int 1), (9, .int 5), (10, .int (bI (mOn (c (2 + j))))), (11, .int (nI v)), (12, .int (nI (18 + j))), (13, .int 1)] dX4_fits_281 (by decide) rfl ?_
                                  refine z_iinc (pc := 283) gX 11 (nI (v + 1)) [1, 2, 3, 4, 5, 6, 7, 8, 9, 10, 11, 0, 12, 13] [(0, .ref o), (1, .int (nI j)), (2, .int (nI q)), (3, .int (nI a)), (4, .int (nI mm)), (5, .int 0), (6, .int (set ||| (1 <<< ((nI v) &&& 31)))), (7, .int (nI (40 * q + a))), (8, .int 1), (9, .int 5), (10, .int (bI (mOn (c (2 + j))))), (11, .int (nI (v + 1))), (12, .int (nI (18 + j))), (13, .int 1)] dX4_fits_283 rfl (nI_1 _) (by decide) rfl ?_
                                  refine z_goto (pc := 286) gX 153 dX4_fits_286 (by decide) ?_
                                  refine z_lv [0, 1, 2, 3, 4, 5, 6, 7, 8, 9, 10, 11] [(0, .ref o), (1, .int (nI j)), (2, .int (nI q)), (3, .int (nI a)), (4, .int (nI mm)), (5, .int 0), (6, .int (set ||| (1 <<< ((nI v) &&& 31)))), (7, .int (nI (40 * q + a))), (8, .int 1), (9, .int 5), (10, .int (bI (mOn (c (2 + j))))), (11, .int (nI (v + 1)))] rfl ?_
                                  exact ih153 (v + 1) (set ||| (1 <<< ((nI v) &&& 31))) th1_266 wn1_266 (by omega) (by omega) (by rw [orG_s (by omega), ← hv]; congr 1; simp [ftF, mayW, layW, k269]) (by omega)
                            · skip
                              have k207 : 3 ≤ 0 := (zn_nlt (a := 0) (b := 3) (by omega) (by omega)).mp c207
                              exact absurd c207 (by decide)
                    exact L153 ((6 - 1) + 1) 1 0 th wn (by omega) (by omega) rfl (Nat.lt_succ_self _)
              · skip
                have k63 : (mLies (sz q) i (nI mm)) = false := bI_eq0 c63
                refine z_aload_n (pc := 66) gX 0 dX4_fits_66 rfl rfl ?_
                refine z_ldc (pc := 67) gX q1472 dX4_fits_67 ?_
                refine z_cMV (pc := 69) gX hAX [.int (-1000012)] [] [0] [1, 2, 3, 4, 5] (fun A1 => met_X4_ends l D B0 A1 o ad x (-1000012) ) q1457 q1459 qs28 q54 q1460 (zm 0 rfl) (ci := 4) rfl rfl hd_X4_ends ⟨rfl, rfl⟩ ⟨(Nat.le_of_ble_eq_true rfl), (Nat.le_of_ble_eq_true rfl)⟩ rfl rfl rfl rfl rfl (Nat.le_of_ble_eq_true rfl) ⟨(Nat.le_of_ble_eq_true rfl), (Nat.le_of_ble_eq_true rfl)⟩ dX4_fits_69 ?_
                intro _ hu69
                refine z_re [0, 1, 2, 3, 4, 5] [mOb o ad (mSt x (-1000012)), [(ad 0, .inl (D.1 100, 8, .inl sz))], [(ad 2, .inl (D.1 100, 320, .inl it))], [(ad 5, .inl (D.1 100, 25, .inl c))], [(ad 10, .inl (D.1 100, 25, .inl th))], [(ad 11, .inl (D.1 100, 25, .inl wn))]] rfl rfl ?_
                refine z_eq (lv₂ := [(0, .ref o), (1, .int (nI j)), (2, .int (nI q)), (3, .int i), (4, .int (nI mm)), (5, .int 0)]) (st₂ := [.int (-1000012)]) ?_ rfl rfl
                exact z_rim gX hQX ((-1000012), mSt x (-1000012), th, wn) (by simp [mFits, k5, k12, k23, k33, Int32.not_lt.mpr c45, nI_clamp (show q < 2 ^ 31 by omega), k63]) rfl rfl (by first | decide | omega) (by first | decide | omega) dX4_fits_72
            · skip
              refine z_aload_n (pc := 48) gX 0 dX4_fits_48 rfl rfl ?_
              refine z_ldc (pc := 49) gX q1462 dX4_fits_49 ?_
              refine z_cMV (pc := 51) gX hAX [.int (-1000011)] [] [0] [1, 2, 3, 4, 5] (fun A1 => met_X4_ends l D B0 A1 o ad x (-1000011) ) q1457 q1459 qs28 q54 q1460 (zm 0 rfl) (ci := 4) rfl rfl hd_X4_ends ⟨rfl, rfl⟩ ⟨(Nat.le_of_ble_eq_true rfl), (Nat.le_of_ble_eq_true rfl)⟩ rfl rfl rfl rfl rfl (Nat.le_of_ble_eq_true rfl) ⟨(Nat.le_of_ble_eq_true rfl), (Nat.le_of_ble_eq_true rfl)⟩ dX4_fits_51 ?_
              intro _ hu51
              refine z_re [0, 1, 2, 3, 4, 5] [mOb o ad (mSt x (-1000011)), [(ad 0, .inl (D.1 100, 8, .inl sz))], [(ad 2, .inl (D.1 100, 320, .inl it))], [(ad 5, .inl (D.1 100, 25, .inl c))], [(ad 10, .inl (D.1 100, 25, .inl th))], [(ad 11, .inl (D.1 100, 25, .inl wn))]] rfl rfl ?_
              refine z_eq (lv₂ := [(0, .ref o), (1, .int (nI j)), (2, .int (nI q)), (3, .int i), (4, .int (nI mm)), (5, .int 0)]) (st₂ := [.int (-1000011)]) ?_ rfl rfl
              exact z_rim gX hQX ((-1000011), mSt x (-1000011), th, wn) (by simp [mFits, k5, k12, k23, k33, Int32.not_le.mp c45, nI_clamp (show q < 2 ^ 31 by omega)]) rfl rfl (by first | decide | omega) (by first | decide | omega) dX4_fits_54
          · skip
            refine z_aload_n (pc := 39) gX 0 dX4_fits_39 rfl rfl ?_
            refine z_get (pc := 40) gX (zI_ok gX hAX) (zm 0 rfl) (ci := 4) (C := RX4) (T := TX4) (N := 20) rfl in_X4 0 (by decide) q1383 (fun _ h => h) (v := .ref (ad 0)) rfl dX4_fits_40 ?_
            refine z_iload_n (pc := 43) gX 2 dX4_fits_43 rfl rfl ?_
            refine z_iald (pc := 44) gX (zI_ok gX hAX) (j := q) (n := 8) (f := sz) (zm 1 rfl) (by omega) (by decide) dX4_fits_44 ?_
            refine z_if_ge (pc := 45) gX 55 dX4_fits_45 (by decide) (fun c45 => ?_) (fun c45 => ?_)
            · skip
              refine z_aload_n (pc := 55) gX 0 dX4_fits_55 rfl rfl ?_
              refine z_iload_n (pc := 56) gX 2 dX4_fits_56 rfl rfl ?_
              refine z_iload_n (pc := 57) gX 3 dX4_fits_57 rfl rfl ?_
              refine z_iload (pc := 58) gX 4 dX4_fits_58 rfl ?_
              refine z_cOV (pc := 60) gX (zI_ok gX hAX) [.int (nI q), .int i, .int (nI mm)] [] [0, 1] (met_X4_lies l D B0 o ad x sz q i (nI mm) (by first | assumption | omega)) q1468 q1470 qs29 q54 q1471 (zm 0 rfl) (ci := 4) rfl rfl hd_X4_lies ⟨rfl, rfl⟩ ⟨(Nat.le_of_ble_eq_true rfl), (Nat.le_of_ble_eq_true rfl)⟩ rfl rfl rfl (Nat.le_of_ble_eq_true rfl) ⟨(Nat.le_of_ble_eq_true rfl), (Nat.le_of_ble_eq_true rfl)⟩ dX4_fits_60 ?_
              intro _ hu60
              refine z_eq (lv₂ := [(0, .ref o), (1, .int (nI j)), (2, .int (nI q)), (3, .int i), (4, .int (nI mm)), (5, .int 1)]) (st₂ := [.int (bI (mLies (sz q) i (nI mm)))]) ?_ rfl rfl
              refine z_if_ne (pc := 63) gX 73 dX4_fits_63 (by decide) (fun c63 => ?_) (fun c63 => ?_)
              · skip
                have k63 : (mLies (sz q) i (nI mm)) = true := bI_ne0 c63
                obtain ⟨a, b, m0, hai, hb1, hzm, hab, hm⟩ := mLies_nat k63 (hsz q (by omega))
                subst hai
                have hbm := (zn_eq (by omega) (by omega)).mp hb1
                subst hbm
                have hk1 := hk1 (by omega)
                refine z_iconst (pc := 73) gX 0 dX4_fits_73 (by decide) ?_
                refine z_istore (pc := 74) gX [1, 2, 3, 4, 5, 6, 0] [(0, .ref o), (1, .int (nI j)), (2, .int (nI q)), (3, .int (nI a)), (4, .int (nI mm)), (5, .int 1), (6, .int 0)] dX4_fits_74 (by decide) rfl ?_
                refine z_bipush (pc := 76) gX 40 dX4_fits_76 (by decide) ?_
                refine z_iload_n (pc := 78) gX 2 dX4_fits_78 rfl rfl ?_
                refine z_imul (pc := 79) gX dX4_fits_79 ?_
                refine z_top (nI (40 * q)) (pk_mul 40 q) ?_
                refine z_iload_n (pc := 80) gX 3 dX4_fits_80 rfl rfl ?_
                refine z_iadd (pc := 81) gX dX4_fits_81 ?_
                refine z_top (nI (40 * q + a)) (nI_add (40 * q) a) ?_
                refine z_istore (pc := 82) gX [1, 2, 3, 4, 5, 6, 7, 0] [(0, .ref o), (1, .int (nI j)), (2, .int (nI q)), (3, .int (nI a)), (4, .int (nI mm)), (5, .int 1), (6, .int 0), (7, .int (nI (40 * q + a)))] dX4_fits_82 (by decide) rfl ?_
                refine z_iload (pc := 84) gX 5 dX4_fits_84 rfl ?_
                refine z_if_ne (pc := 86) gX 93 dX4_fits_86 (by decide) (fun c86 => ?_) (fun c86 => ?_)
                · skip
                  refine z_iconst (pc := 93) gX 0 dX4_fits_93 (by decide) ?_
                  refine z_istore (pc := 94) gX [1, 2, 3, 4, 5, 6, 7, 8, 0] [(0, .ref o), (1, .int (nI j)), (2, .int (nI q)), (3, .int (nI a)), (4, .int (nI mm)), (5, .int 1), (6, .int 0), (7, .int (nI (40 * q + a))), (8, .int 0)] dX4_fits_94 (by decide) rfl ?_
                  refine z_iload (pc := 96) gX 5 dX4_fits_96 rfl ?_
                  refine z_if_ne (pc := 98) gX 105 dX4_fits_98 (by decide) (fun c98 => ?_) (fun c98 => ?_)
                  · skip
                    refine z_iload (pc := 105) gX 5 dX4_fits_105 rfl ?_
                    refine z_iconst (pc := 107) gX 1 dX4_fits_107 (by decide) ?_
                    refine z_icmp_ne (pc := 108) gX 115 dX4_fits_108 (by decide) (fun c108 => ?_) (fun c108 => ?_)
                    · skip
                      have k108 : ¬ 1 = 1 := fun h => c108 ((zn_eq (a := 1) (b := 1) (by omega) (by omega)).mpr h)
                      exact absurd c108 (by decide)
                    · skip
                      have k108 : 1 = 1 := (zn_eq (a := 1) (b := 1) (by omega) (by omega)).mp c108
                      refine z_iconst (pc := 111) gX 1 dX4_fits_111 (by decide) ?_
                      refine z_goto (pc := 112) gX 134 dX4_fits_112 (by decide) ?_
                      refine z_istore (pc := 134) gX [1, 2, 3, 4, 5, 6, 7, 8, 9, 0] [(0, .ref o), (1, .int (nI j)), (2, .int (nI q)), (3, .int (nI a)), (4, .int (nI mm)), (5, .int 1), (6, .int 0), (7, .int (nI (40 * q + a))), (8, .int 0), (9, .int 1)] dX4_fits_134 (by decide) rfl ?_
                      refine z_aload_n (pc := 136) gX 0 dX4_fits_136 rfl rfl ?_
                      refine z_get (pc := 137) gX (zI_ok gX hAX) (zm 0 rfl) (ci := 4) (C := RX4) (T := TX4) (N := 20) rfl in_X4 8 (by decide) q1391 (fun _ h => h) (v := .ref (ad 5)) rfl dX4_fits_137 ?_
                      refine z_iconst (pc := 140) gX 2 dX4_fits_140 (by decide) ?_
                      refine z_iload_n (pc := 141) gX 1 dX4_fits_141 rfl rfl ?_
                      refine z_iadd (pc := 142) gX dX4_fits_142 ?_
                      refine z_top (nI (2 + j)) (nI_add 2 j) ?_
                      refine z_iald (pc := 143) gX (zI_ok gX hAX) (j := (2 + j)) (n := 25) (f := c) (zm 3 rfl) (by omega) (by decide) dX4_fits_143 ?_
                      refine z_cOS (pc := 144) gX (zI_ok gX hAX) [.int (c (2 + j))] [] [] (met_X4_isOn l D B0 (c (2 + j)) ) q1550 q1551 q54 q1552 hd_X4_isOn ⟨rfl, rfl⟩ ⟨(Nat.le_of_ble_eq_true rfl), (Nat.le_of_ble_eq_true rfl)⟩ rfl rfl rfl (Nat.le_of_ble_eq_true rfl) ⟨(Nat.le_of_ble_eq_true rfl), (Nat.le_of_ble_eq_true rfl)⟩ dX4_fits_144 ?_
                      intro _ hu144
                      refine z_eq (lv₂ := [(0, .ref o), (1, .int (nI j)), (2, .int (nI q)), (3, .int (nI a)), (4, .int (nI mm)), (5, .int 1), (6, .int 0), (7, .int (nI (40 * q + a))), (8, .int 0), (9, .int 1)]) (st₂ := [.int (bI (mOn (c (2 + j))))]) ?_ rfl rfl
                      refine z_istore (pc := 147) gX [1, 2, 3, 4, 5, 6, 7, 8, 9, 10, 0] [(0, .ref o), (1, .int (nI j)), (2, .int (nI q)), (3, .int (nI a)), (4, .int (nI mm)), (5, .int 1), (6, .int 0), (7, .int (nI (40 * q + a))), (8, .int 0), (9, .int 1), (10, .int (bI (mOn (c (2 + j)))))] dX4_fits_147 (by decide) rfl ?_
                      refine z_iload (pc := 149) gX 8 dX4_fits_149 rfl ?_
                      refine z_istore (pc := 151) gX [1, 2, 3, 4, 5, 6, 7, 8, 9, 10, 11, 0] [(0, .ref o), (1, .int (nI j)), (2, .int (nI q)), (3, .int (nI a)), (4, .int (nI mm)), (5, .int 1), (6, .int 0), (7, .int (nI (40 * q + a))), (8, .int 0), (9, .int 1), (10, .int (bI (mOn (c (2 + j))))), (11, .int 0)] dX4_fits_151 (by decide) rfl ?_
                      have L153 : ∀ (n153 : Nat) (v : Nat) (set : Int32) (t2 : Nat → Int32) (w2 : Nat → Int32), (0 ≤ v) → (v ≤ 2) → (set = orG (ftF 1 n k c j it (40 * q + a) mm) 0 (v - 0)) → 2 - v < n153 → zJ pX l eX (zRm 6 0 0) sX mX argsX blX mtX cX QX 14 (zI D A sX [mOb o ad x, [(ad 0, .inl (D.1 100, 8, .inl sz))], [(ad 2, .inl (D.1 100, 320, .inl it))], [(ad 5, .inl (D.1 100, 25, .inl c))], [(ad 10, .inl (D.1 100, 25, .inl t2))], [(ad 11, .inl (D.1 100, 25, .inl w2))]]) 0 0 153 [(0, .ref o), (1, .int (nI j)), (2, .int (nI q)), (3, .int (nI a)), (4, .int (nI mm)), (5, .int 1), (6, .int set), (7, .int (nI (40 * q + a))), (8, .int 0), (9, .int 1), (10, .int (bI (mOn (c (2 + j))))), (11, .int (nI v))] [] := by
                        intro n153
                        induction n153 with
                        | zero => exact fun v set t2 w2 hlo hhi hv hm153 => absurd hm153 (Nat.not_lt_zero _)
                        | succ n153 ih153 =>
                          intro v set t2 w2 hlo hhi hv hm153
                          refine z_iload (pc := 153) gX 11 dX4_fits_153 rfl ?_
                          refine z_iload (pc := 155) gX 9 dX4_fits_155 rfl ?_
                          refine z_icmp_gt (pc := 157) gX 289 dX4_fits_157 (by decide) (fun c157 => ?_) (fun c157 => ?_)
                          · skip
                            have k157 : 1 < v := (zn_lt (a := 1) (b := v) (by omega) (by omega)).mp c157
                            refine z_aload_n (pc := 289) gX 0 dX4_fits_289 rfl rfl ?_
                            refine z_iload (pc := 290) gX 6 dX4_fits_290 rfl ?_
                            refine z_cMV (pc := 292) gX hAX [.int set] [] [0] [1, 2, 3, 4, 5] (fun A1 => met_X4_ends l D B0 A1 o ad x set ) q1457 q1459 qs28 q54 q1460 (zm 0 rfl) (ci := 4) rfl rfl hd_X4_ends ⟨rfl, rfl⟩ ⟨(Nat.le_of_ble_eq_true rfl), (Nat.le_of_ble_eq_true rfl)⟩ rfl rfl rfl rfl rfl (Nat.le_of_ble_eq_true rfl) ⟨(Nat.le_of_ble_eq_true rfl), (Nat.le_of_ble_eq_true rfl)⟩ dX4_fits_292 ?_
                            intro _ hu292
                            refine z_re [0, 1, 2, 3, 4, 5] [mOb o ad (mSt x set), [(ad 0, .inl (D.1 100, 8, .inl sz))], [(ad 2, .inl (D.1 100, 320, .inl it))], [(ad 5, .inl (D.1 100, 25, .inl c))], [(ad 10, .inl (D.1 100, 25, .inl t2))], [(ad 11, .inl (D.1 100, 25, .inl w2))]] rfl rfl ?_
                            refine z_eq (lv₂ := [(0, .ref o), (1, .int (nI j)), (2, .int (nI q)), (3, .int (nI a)), (4, .int (nI mm)), (5, .int 1), (6, .int set), (7, .int (nI (40 * q + a))), (8, .int 0), (9, .int 1), (10, .int (bI (mOn (c (2 + j))))), (11, .int (nI v))]) (st₂ := [.int set]) ?_ rfl rfl
                            exact z_rim gX hQX (set, mSt x set, t2, w2) (by rw [hv, show v = 2 by omega]; simp only [mFits, k5, k12, k23, k33, Bool.and_self, if_true, if_neg (Int32.not_lt.mpr c45), nI_clamp (show q < 2 ^ 31 by omega), k63, nI_clamp (show j < 2 ^ 31 by omega), nI_clamp (show mm < 2 ^ 31 by omega), nI_clamp (show a < 2 ^ 31 by omega), nI_clamp (show 1 < 2 ^ 31 by omega)]; rfl) rfl rfl (by first | decide | omega) (by first | decide | omega) dX4_fits_295
                          · skip
                            have k157 : v ≤ 1 := (zn_nlt (a := 1) (b := v) (by omega) (by omega)).mp c157
                            refine z_aload_n (pc := 160) gX 0 dX4_fits_160 rfl rfl ?_
                            refine z_cMV (pc := 161) gX hAX [] [] [0, 3, 4] [1, 2, 5] (fun A1 => met_X4_starts l D B0 A1 o ad x c t2 ) q1592 q1594 qs39 q54 q1595 (zm 0 rfl) (ci := 4) rfl rfl hd_X4_starts ⟨rfl, rfl⟩ ⟨(Nat.le_of_ble_eq_true rfl), (Nat.le_of_ble_eq_true rfl)⟩ rfl rfl rfl rfl rfl (Nat.le_of_ble_eq_true rfl) ⟨(Nat.le_of_ble_eq_true rfl), (Nat.le_of_ble_eq_true rfl)⟩ dX4_fits_161 ?_
                            intro _ hu161
                            refine z_re [0, 3, 4, 1, 2, 5] [mOb o ad x, [(ad 0, .inl (D.1 100, 8, .inl sz))], [(ad 2, .inl (D.1 100, 320, .inl it))], [(ad 5, .inl (D.1 100, 25, .inl c))], [(ad 10, .inl (D.1 100, 25, .inl c))], [(ad 11, .inl (D.1 100, 25, .inl w2))]] rfl rfl ?_
                            refine z_eq (lv₂ := [(0, .ref o), (1, .int (nI j)), (2, .int (nI q)), (3, .int (nI a)), (4, .int (nI mm)), (5, .int 1), (6, .int set), (7, .int (nI (40 * q + a))), (8, .int 0), (9, .int 1), (10, .int (bI (mOn (c (2 + j))))), (11, .int (nI v))]) (st₂ := []) ?_ rfl rfl
                            refine z_iload (pc := 164) gX 5 dX4_fits_164 rfl ?_
                            refine z_if_ne (pc := 166) gX 176 dX4_fits_166 (by decide) (fun c166 => ?_) (fun c166 => ?_)
                            · skip
                              refine z_iload (pc := 176) gX 5 dX4_fits_176 rfl ?_
                              refine z_iconst (pc := 178) gX 1 dX4_fits_178 (by decide) ?_
                              refine z_icmp_ne (pc := 179) gX 189 dX4_fits_179 (by decide) (fun c179 => ?_) (fun c179 => ?_)
                              · skip
                                have k179 : ¬ 1 = 1 := fun h => c179 ((zn_eq (a := 1) (b := 1) (by omega) (by omega)).mpr h)
                                exact absurd c179 (by decide)
                              · skip
                                have k179 : 1 = 1 := (zn_eq (a := 1) (b := 1) (by omega) (by omega)).mp c179
                                refine z_bipush (pc := 182) gX 9 dX4_fits_182 (by decide) ?_
                                refine z_iload_n (pc := 184) gX 1 dX4_fits_184 rfl rfl ?_
                                refine z_iadd (pc := 185) gX dX4_fits_185 ?_
                                refine z_top (nI (9 + j)) (nI_add 9 j) ?_
                                refine z_goto (pc := 186) gX 202 dX4_fits_186 (by decide) ?_
                                refine z_istore (pc := 202) gX [1, 2, 3, 4, 5, 6, 7, 8, 9, 10, 11, 12, 0] [(0, .ref o), (1, .int (nI j)), (2, .int (nI q)), (3, .int (nI a)), (4, .int (nI mm)), (5, .int 1), (6, .int set), (7, .int (nI (40 * q + a))), (8, .int 0), (9, .int 1), (10, .int (bI (mOn (c (2 + j))))), (11, .int (nI v)), (12, .int (nI (9 + j)))] dX4_fits_202 (by decide) rfl ?_
                                refine z_iload (pc := 204) gX 5 dX4_fits_204 rfl ?_
                                refine z_iconst (pc := 206) gX 3 dX4_fits_206 (by decide) ?_
                                refine z_icmp_lt (pc := 207) gX 237 dX4_fits_207 (by decide) (fun c207 => ?_) (fun c207 => ?_)
                                · skip
                                  have k207 : 1 < 3 := (zn_lt (a := 1) (b := 3) (by omega) (by omega)).mp c207
                                  refine z_iconst (pc := 237) gX 1 dX4_fits_237 (by decide) ?_
                                  refine z_goto (pc := 238) gX 242 dX4_fits_238 (by decide) ?_
                                  refine z_istore (pc := 242) gX [1, 2, 3, 4, 5, 6, 7, 8, 9, 10, 11, 12, 13, 0] [(0, .ref o), (1, .int (nI j)), (2, .int (nI q)), (3, .int (nI a)), (4, .int (nI mm)), (5, .int 1), (6, .int set), (7, .int (nI (40 * q + a))), (8, .int 0), (9, .int 1), (10, .int (bI (mOn (c (2 + j))))), (11, .int (nI v)), (12, .int (nI (9 + j))), (13, .int 1)] dX4_fits_242 (by decide) rfl ?_
                                  refine z_aload_n (pc := 244) gX 0 dX4_fits_244 rfl rfl ?_
                                  refine z_get (pc := 245) gX (zI_ok gX hAX) (zm 0 rfl) (ci := 4) (C := RX4) (T := TX4) (N := 20) rfl in_X4 14 (by decide) q1397 (fun _ h => h) (v := .ref (ad 10)) rfl dX4_fits_245 ?_
                                  refine z_iload (pc := 248) gX 12 dX4_fits_248 rfl ?_
                                  refine z_iload (pc := 250) gX 11 dX4_fits_250 rfl ?_
                                  refine z_iast (pc := 252) gX hAX 4 (j := (9 + j)) (n := 25) (f := c) rfl (by omega) (by decide) [mOb o ad x, [(ad 0, .inl (D.1 100, 8, .inl sz))], [(ad 2, .inl (D.1 100, 320, .inl it))], [(ad 5, .inl (D.1 100, 25, .inl c))], [(ad 10, .inl (D.1 100, 25, .inl (upd c (9 + j) (nI v))))], [(ad 11, .inl (D.1 100, 25, .inl w2))]] rfl dX4_fits_252 ?_
                                  refine z_iload (pc := 253) gX 6 dX4_fits_253 rfl ?_
                                  refine z_iload (pc := 255) gX 13 dX4_fits_255 rfl ?_
                                  refine z_if_eq (pc := 257) gX 279 dX4_fits_257 (by decide) (fun c257 => ?_) (fun c257 => ?_)
                                  · skip
                                    exact absurd c257 (by decide)
                                  · skip
                                    refine z_aload_n (pc := 260) gX 0 dX4_fits_260 rfl rfl ?_
                                    refine z_iload_n (pc := 261) gX 1 dX4_fits_261 rfl rfl ?_
                                    refine z_iload (pc := 262) gX 7 dX4_fits_262 rfl ?_
                                    refine z_iload (pc := 264) gX 4 dX4_fits_264 rfl ?_
                                    refine z_cMV (pc := 266) gX hAX [.int (nI j), .int (nI (40 * q + a)), .int (nI mm)] [.int set] [0, 2, 4, 5] [1, 3] (fun A1 => met_X4_isSo l D B0 A1 o ad x it (upd c (9 + j) (nI v)) w2 n k j (40 * q + a) mm (by rw [pk_un (by omega)]; exact hn) (by first | assumption | omega) (by rw [pk_un (by omega)]; exact hk) (by first | assumption | omega) (by first | assumption | omega) (by first | assumption | omega)) q1636 q1638 qs42 q54 q1639 (zm 0 rfl) (ci := 4) rfl rfl hd_X4_isSo ⟨rfl, rfl⟩ ⟨(Nat.le_of_ble_eq_true rfl), (Nat.le_of_ble_eq_true rfl)⟩ rfl rfl rfl rfl rfl (Nat.le_of_ble_eq_true rfl) ⟨(Nat.le_of_ble_eq_true rfl), (Nat.le_of_ble_eq_true rfl)⟩ dX4_fits_266 ?_
                                    intro u266 hu266
                                    obtain ⟨th1_266, wn1_266⟩ := u266
                                    refine z_re [0, 4, 1, 5, 2, 3] [mOb o ad x, [(ad 0, .inl (D.1 100, 8, .inl sz))], [(ad 2, .inl (D.1 100, 320, .inl it))], [(ad 5, .inl (D.1 100, 25, .inl c))], [(ad 10, .inl (D.1 100, 25, .inl th1_266))], [(ad 11, .inl (D.1 100, 25, .inl wn1_266))]] rfl rfl ?_
                                    refine z_eq (lv₂ := [(0, .ref o), (1, .int (nI j)), (2, .int (nI q)), (3, .int (nI a)), (4, .int (nI mm)), (5, .int 1), (6, .int set), (7, .int (nI (40 * q + a))), (8, .int 0), (9, .int 1), (10, .int (bI (mOn (c (2 + j))))), (11, .int (nI v)), (12, .int (nI (9 + j))), (13, .int 1)]) (st₂ := [.int (bI (soP n k (upd c (9 + j) (nI v)) j it (40 * q + a) mm)), .int set]) ?_ rfl rfl
                                    refine z_if_eq (pc := 269) gX 279 dX4_fits_269 (by decide) (fun c269 => ?_) (fun c269 => ?_)
                                    · skip
                                      have k269 : (soP n k (upd c (9 + j) (nI v)) j it (40 * q + a) mm) = false := bI_eq0 c269
                                      refine z_iconst (pc := 279) gX 0 dX4_fits_279 (by decide) ?_
                                      refine z_ior (pc := 280) gX dX4_fits_280 ?_
                                      refine z_istore (pc := 281) gX [1, 2, 3, 4, 5, 6, 0, 7, 8, 9, 10, 11, 12, 13] [(0, .ref o), (1, .int (nI j)), (2, .int (nI q)), (3, .int (nI a)), (4, .int (nI mm)), (5, .int 1), (6, .int (set ||| 0)), (7, .int (nI (40 * q + a))), (8, .int 0), (9, .int 1), (10, .int (bI (mOn (c (2 + j))))), (11, .int (nI v)), (12, .int (nI (9 + j))), (13, .int 1)] dX4_fits_281 (by decide) rfl ?_
                                      refine z_iinc (pc := 283) gX 11 (nI (v + 1)) [1, 2, 3, 4, 5, 6, 7, 8, 9, 10, 11, 0, 12, 13] [(0, .ref o), (1, .int (nI j)), (2, .int (nI q)), (3, .int (nI a)), (4, .int (nI mm)), (5, .int 1), (6, .int (set ||| 0)), (7, .int (nI (40 * q + a))), (8, .int 0), (9, .int 1), (10, .int (bI (mOn (c (2 + j))))), (11, .int (nI (v + 1))), (12, .int (nI (9 + j))), (13, .int 1)] dX4_fits_283 rfl (nI_1 _) (by decide) rfl ?_
                                      refine z_goto (pc := 286) gX 153 dX4_fits_286 (by decide) ?_
                                      refine z_lv [0, 1, 2, 3, 4, 5, 6, 7, 8, 9, 10, 11] [(0, .ref o), (1, .int (nI j)), (2, .int (nI q)), (3, .int (nI a)), (4, .int (nI mm)), (5, .int 1), (6, .int (set ||| 0)), (7, .int (nI (40 * q + a))), (8, .int 0), (9, .int 1), (10, .int (bI (mOn (c (2 + j))))), (11, .int (nI (v + 1)))] rfl ?_
                                      exact ih153 (v + 1) (set ||| 0) th1_266 wn1_266 (by omega) (by omega) (by rw [orG_s (by omega), ← hv]; congr 1; simp [ftF, mayW, layW, k269]) (by omega)
                                    · skip
                                      have k269 : (soP n k (upd c (9 + j) (nI v)) j it (40 * q + a) mm) = true := bI_ne0 c269
                                      refine z_iconst (pc := 272) gX 1 dX4_fits_272 (by decide) ?_
                                      refine z_iload (pc := 273) gX 11 dX4_fits_273 rfl ?_
                                      refine z_ishl (pc := 275) gX dX4_fits_275 ?_
                                      refine z_goto (pc := 276) gX 280 dX4_fits_276 (by decide) ?_
                                      refine z_ior (pc := 280) gX dX4_fits_280 ?_
                                      refine z_istore (pc := 281) gX [1, 2, 3, 4, 5, 6, 0, 7, 8, 9, 10, 11, 12, 13] [(0, .ref o), (1, .int (nI j)), (2, .int (nI q)), (3, .int (nI a)), (4, .int (nI mm)), (5, .int 1), (6, .int (set ||| (1 <<< ((nI v) &&& 31)))), (7, .int (nI (40 * q + a))), (8, .int 0), (9, .int 1), (10, .int (bI (mOn (c (2 + j))))), (11, .int (nI v)), (12, .int (nI (9 + j))), (13, .int 1)] dX4_fits_281 (by decide) rfl ?_
                                      refine z_iinc (pc := 283) gX 11 (nI (v + 1)) [1, 2, 3, 4, 5, 6, 7, 8, 9, 10, 11, 0, 12, 13] [(0, .ref o), (1, .int (nI j)), (2, .int (nI q)), (3, .int (nI a)), (4, .int (nI mm)), (5, .int 1), (6, .int (set ||| (1 <<< ((nI v) &&& 31)))), (7, .int (nI (40 * q + a))), (8, .int 0), (9, .int 1), (10, .int (bI (mOn (c (2 + j))))), (11, .int (nI (v + 1))), (12, .int (nI (9 + j))), (13, .int 1)] dX4_fits_283 rfl (nI_1 _) (by decide) rfl ?_
                                      refine z_goto (pc := 286) gX 153 dX4_fits_286 (by decide) ?_
                                      refine z_lv [0, 1, 2, 3, 4, 5, 6, 7, 8, 9, 10, 11] [(0, .ref o), (1, .int (nI j)), (2, .int (nI q)), (3, .int (nI a)), (4, .int (nI mm)), (5, .int 1), (6, .int (set ||| (1 <<< ((nI v) &&& 31)))), (7, .int (nI (40 * q + a))), (8, .int 0), (9, .int 1), (10, .int (bI (mOn (c (2 + j))))), (11, .int (nI (v + 1)))] rfl ?_
                                      exact ih153 (v + 1) (set ||| (1 <<< ((nI v) &&& 31))) th1_266 wn1_266 (by omega) (by omega) (by rw [orG_s (by omega), ← hv]; congr 1; simp [ftF, mayW, layW, k269]) (by omega)
                                · skip
                                  have k207 : 3 ≤ 1 := (zn_nlt (a := 1) (b := 3) (by omega) (by omega)).mp c207
                                  exact absurd c207 (by decide)
                            · skip
                              exact absurd c166 (by decide)
                      exact L153 ((2 - 0) + 1) 0 0 th wn (by omega) (by omega) rfl (Nat.lt_succ_self _)
                  · skip
                    exact absurd c98 (by decide)
                · skip
                  exact absurd c86 (by decide)
              · skip
                have k63 : (mLies (sz q) i (nI mm)) = false := bI_eq0 c63
                refine z_aload_n (pc := 66) gX 0 dX4_fits_66 rfl rfl ?_
                refine z_ldc (pc := 67) gX q1472 dX4_fits_67 ?_
                refine z_cMV (pc := 69) gX hAX [.int (-1000012)] [] [0] [1, 2, 3, 4, 5] (fun A1 => met_X4_ends l D B0 A1 o ad x (-1000012) ) q1457 q1459 qs28 q54 q1460 (zm 0 rfl) (ci := 4) rfl rfl hd_X4_ends ⟨rfl, rfl⟩ ⟨(Nat.le_of_ble_eq_true rfl), (Nat.le_of_ble_eq_true rfl)⟩ rfl rfl rfl rfl rfl (Nat.le_of_ble_eq_true rfl) ⟨(Nat.le_of_ble_eq_true rfl), (Nat.le_of_ble_eq_true rfl)⟩ dX4_fits_69 ?_
                intro _ hu69
                refine z_re [0, 1, 2, 3, 4, 5] [mOb o ad (mSt x (-1000012)), [(ad 0, .inl (D.1 100, 8, .inl sz))], [(ad 2, .inl (D.1 100, 320, .inl it))], [(ad 5, .inl (D.1 100, 25, .inl c))], [(ad 10, .inl (D.1 100, 25, .inl th))], [(ad 11, .inl (D.1 100, 25, .inl wn))]] rfl rfl ?_
                refine z_eq (lv₂ := [(0, .ref o), (1, .int (nI j)), (2, .int (nI q)), (3, .int i), (4, .int (nI mm)), (5, .int 1)]) (st₂ := [.int (-1000012)]) ?_ rfl rfl
                exact z_rim gX hQX ((-1000012), mSt x (-1000012), th, wn) (by simp [mFits, k5, k12, k23, k33, Int32.not_lt.mpr c45, nI_clamp (show q < 2 ^ 31 by omega), k63]) rfl rfl (by first | decide | omega) (by first | decide | omega) dX4_fits_72
            · skip
              refine z_aload_n (pc := 48) gX 0 dX4_fits_48 rfl rfl ?_
              refine z_ldc (pc := 49) gX q1462 dX4_fits_49 ?_
              refine z_cMV (pc := 51) gX hAX [.int (-1000011)] [] [0] [1, 2, 3, 4, 5] (fun A1 => met_X4_ends l D B0 A1 o ad x (-1000011) ) q1457 q1459 qs28 q54 q1460 (zm 0 rfl) (ci := 4) rfl rfl hd_X4_ends ⟨rfl, rfl⟩ ⟨(Nat.le_of_ble_eq_true rfl), (Nat.le_of_ble_eq_true rfl)⟩ rfl rfl rfl rfl rfl (Nat.le_of_ble_eq_true rfl) ⟨(Nat.le_of_ble_eq_true rfl), (Nat.le_of_ble_eq_true rfl)⟩ dX4_fits_51 ?_
              intro _ hu51
              refine z_re [0, 1, 2, 3, 4, 5] [mOb o ad (mSt x (-1000011)), [(ad 0, .inl (D.1 100, 8, .inl sz))], [(ad 2, .inl (D.1 100, 320, .inl it))], [(ad 5, .inl (D.1 100, 25, .inl c))], [(ad 10, .inl (D.1 100, 25, .inl th))], [(ad 11, .inl (D.1 100, 25, .inl wn))]] rfl rfl ?_
              refine z_eq (lv₂ := [(0, .ref o), (1, .int (nI j)), (2, .int (nI q)), (3, .int i), (4, .int (nI mm)), (5, .int 1)]) (st₂ := [.int (-1000011)]) ?_ rfl rfl
              exact z_rim gX hQX ((-1000011), mSt x (-1000011), th, wn) (by simp [mFits, k5, k12, k23, k33, Int32.not_le.mp c45, nI_clamp (show q < 2 ^ 31 by omega)]) rfl rfl (by first | decide | omega) (by first | decide | omega) dX4_fits_54
          · skip
            refine z_aload_n (pc := 39) gX 0 dX4_fits_39 rfl rfl ?_
            refine z_get (pc := 40) gX (zI_ok gX hAX) (zm 0 rfl) (ci := 4) (C := RX4) (T := TX4) (N := 20) rfl in_X4 0 (by decide) q1383 (fun _ h => h) (v := .ref (ad 0)) rfl dX4_fits_40 ?_
            refine z_iload_n (pc := 43) gX 2 dX4_fits_43 rfl rfl ?_
            refine z_iald (pc := 44) gX (zI_ok gX hAX) (j := q) (n := 8) (f := sz) (zm 1 rfl) (by omega) (by decide) dX4_fits_44 ?_
            refine z_if_ge (pc := 45) gX 55 dX4_fits_45 (by decide) (fun c45 => ?_) (fun c45 => ?_)
            · skip
              refine z_aload_n (pc := 55) gX 0 dX4_fits_55 rfl rfl ?_
              refine z_iload_n (pc := 56) gX 2 dX4_fits_56 rfl rfl ?_
              refine z_iload_n (pc := 57) gX 3 dX4_fits_57 rfl rfl ?_
              refine z_iload (pc := 58) gX 4 dX4_fits_58 rfl ?_
              refine z_cOV (pc := 60) gX (zI_ok gX hAX) [.int (nI q), .int i, .int (nI mm)] [] [0, 1] (met_X4_lies l D B0 o ad x sz q i (nI mm) (by first | assumption | omega)) q1468 q1470 qs29 q54 q1471 (zm 0 rfl) (ci := 4) rfl rfl hd_X4_lies ⟨rfl, rfl⟩ ⟨(Nat.le_of_ble_eq_true rfl), (Nat.le_of_ble_eq_true rfl)⟩ rfl rfl rfl (Nat.le_of_ble_eq_true rfl) ⟨(Nat.le_of_ble_eq_true rfl), (Nat.le_of_ble_eq_true rfl)⟩ dX4_fits_60 ?_
              intro _ hu60
              refine z_eq (lv₂ := [(0, .ref o), (1, .int (nI j)), (2, .int (nI q)), (3, .int i), (4, .int (nI mm)), (5, .int 2)]) (st₂ := [.int (bI (mLies (sz q) i (nI mm)))]) ?_ rfl rfl
              refine z_if_ne (pc := 63) gX 73 dX4_fits_63 (by decide) (fun c63 => ?_) (fun c63 => ?_)
              · skip
                have k63 : (mLies (sz q) i (nI mm)) = true := bI_ne0 c63
                obtain ⟨a, b, m0, hai, hb1, hzm, hab, hm⟩ := mLies_nat k63 (hsz q (by omega))
                subst hai
                have hbm := (zn_eq (by omega) (by omega)).mp hb1
                subst hbm
                have hk1 := hk1 (by omega)
                refine z_iconst (pc := 73) gX 0 dX4_fits_73 (by decide) ?_
                refine z_istore (pc := 74) gX [1, 2, 3, 4, 5, 6, 0] [(0, .ref o), (1, .int (nI j)), (2, .int (nI q)), (3, .int (nI a)), (4, .int (nI mm)), (5, .int 2), (6, .int 0)] dX4_fits_74 (by decide) rfl ?_
                refine z_bipush (pc := 76) gX 40 dX4_fits_76 (by decide) ?_
                refine z_iload_n (pc := 78) gX 2 dX4_fits_78 rfl rfl ?_
                refine z_imul (pc := 79) gX dX4_fits_79 ?_
                refine z_top (nI (40 * q)) (pk_mul 40 q) ?_
                refine z_iload_n (pc := 80) gX 3 dX4_fits_80 rfl rfl ?_
                refine z_iadd (pc := 81) gX dX4_fits_81 ?_
                refine z_top (nI (40 * q + a)) (nI_add (40 * q) a) ?_
                refine z_istore (pc := 82) gX [1, 2, 3, 4, 5, 6, 7, 0] [(0, .ref o), (1, .int (nI j)), (2, .int (nI q)), (3, .int (nI a)), (4, .int (nI mm)), (5, .int 2), (6, .int 0), (7, .int (nI (40 * q + a)))] dX4_fits_82 (by decide) rfl ?_
                refine z_iload (pc := 84) gX 5 dX4_fits_84 rfl ?_
                refine z_if_ne (pc := 86) gX 93 dX4_fits_86 (by decide) (fun c86 => ?_) (fun c86 => ?_)
                · skip
                  refine z_iconst (pc := 93) gX 0 dX4_fits_93 (by decide) ?_
                  refine z_istore (pc := 94) gX [1, 2, 3, 4, 5, 6, 7, 8, 0] [(0, .ref o), (1, .int (nI j)), (2, .int (nI q)), (3, .int (nI a)), (4, .int (nI mm)), (5, .int 2), (6, .int 0), (7, .int (nI (40 * q + a))), (8, .int 0)] dX4_fits_94 (by decide) rfl ?_
                  refine z_iload (pc := 96) gX 5 dX4_fits_96 rfl ?_
                  refine z_if_ne (pc := 98) gX 105 dX4_fits_98 (by decide) (fun c98 => ?_) (fun c98 => ?_)
                  · skip
                    refine z_iload (pc := 105) gX 5 dX4_fits_105 rfl ?_
                    refine z_iconst (pc := 107) gX 1 dX4_fits_107 (by decide) ?_
                    refine z_icmp_ne (pc := 108) gX 115 dX4_fits_108 (by decide) (fun c108 => ?_) (fun c108 => ?_)
                    · skip
                      have k108 : ¬ 2 = 1 := fun h => c108 ((zn_eq (a := 2) (b := 1) (by omega) (by omega)).mpr h)
                      refine z_iload (pc := 115) gX 5 dX4_fits_115 rfl ?_
                      refine z_iconst (pc := 117) gX 2 dX4_fits_117 (by decide) ?_
                      refine z_icmp_ne (pc := 118) gX 125 dX4_fits_118 (by decide) (fun c118 => ?_) (fun c118 => ?_)
                      · skip
                        have k118 : ¬ 2 = 2 := fun h => c118 ((zn_eq (a := 2) (b := 2) (by omega) (by omega)).mpr h)
                        exact absurd c118 (by decide)
                      · skip
                        have k118 : 2 = 2 := (zn_eq (a := 2) (b := 2) (by omega) (by omega)).mp c118
                        refine z_iconst (pc := 121) gX 2 dX4_fits_121 (by decide) ?_
                        refine z_goto (pc := 122) gX 134 dX4_fits_122 (by decide) ?_
                        refine z_istore (pc := 134) gX [1, 2, 3, 4, 5, 6, 7, 8, 9, 0] [(0, .ref o), (1, .int (nI j)), (2, .int (nI q)), (3, .int (nI a)), (4, .int (nI mm)), (5, .int 2), (6, .int 0), (7, .int (nI (40 * q + a))), (8, .int 0), (9, .int 2)] dX4_fits_134 (by decide) rfl ?_
                        refine z_aload_n (pc := 136) gX 0 dX4_fits_136 rfl rfl ?_
                        refine z_get (pc := 137) gX (zI_ok gX hAX) (zm 0 rfl) (ci := 4) (C := RX4) (T := TX4) (N := 20) rfl in_X4 8 (by decide) q1391 (fun _ h => h) (v := .ref (ad 5)) rfl dX4_fits_137 ?_
                        refine z_iconst (pc := 140) gX 2 dX4_fits_140 (by decide) ?_
                        refine z_iload_n (pc := 141) gX 1 dX4_fits_141 rfl rfl ?_
                        refine z_iadd (pc := 142) gX dX4_fits_142 ?_
                        refine z_top (nI (2 + j)) (nI_add 2 j) ?_
                        refine z_iald (pc := 143) gX (zI_ok gX hAX) (j := (2 + j)) (n := 25) (f := c) (zm 3 rfl) (by omega) (by decide) dX4_fits_143 ?_
                        refine z_cOS (pc := 144) gX (zI_ok gX hAX) [.int (c (2 + j))] [] [] (met_X4_isOn l D B0 (c (2 + j)) ) q1550 q1551 q54 q1552 hd_X4_isOn ⟨rfl, rfl⟩ ⟨(Nat.le_of_ble_eq_true rfl), (Nat.le_of_ble_eq_true rfl)⟩ rfl rfl rfl (Nat.le_of_ble_eq_true rfl) ⟨(Nat.le_of_ble_eq_true rfl), (Nat.le_of_ble_eq_true rfl)⟩ dX4_fits_144 ?_
                        intro _ hu144
                        refine z_eq (lv₂ := [(0, .ref o), (1, .int (nI j)), (2, .int (nI q)), (3, .int (nI a)), (4, .int (nI mm)), (5, .int 2), (6, .int 0), (7, .int (nI (40 * q + a))), (8, .int 0), (9, .int 2)]) (st₂ := [.int (bI (mOn (c (2 + j))))]) ?_ rfl rfl
                        refine z_istore (pc := 147) gX [1, 2, 3, 4, 5, 6, 7, 8, 9, 10, 0] [(0, .ref o), (1, .int (nI j)), (2, .int (nI q)), (3, .int (nI a)), (4, .int (nI mm)), (5, .int 2), (6, .int 0), (7, .int (nI (40 * q + a))), (8, .int 0), (9, .int 2), (10, .int (bI (mOn (c (2 + j)))))] dX4_fits_147 (by decide) rfl ?_
                        refine z_iload (pc := 149) gX 8 dX4_fits_149 rfl ?_
                        refine z_istore (pc := 151) gX [1, 2, 3, 4, 5, 6, 7, 8, 9, 10, 11, 0] [(0, .ref o), (1, .int (nI j)), (2, .int (nI q)), (3, .int (nI a)), (4, .int (nI mm)), (5, .int 2), (6, .int 0), (7, .int (nI (40 * q + a))), (8, .int 0), (9, .int 2), (10, .int (bI (mOn (c (2 + j))))), (11, .int 0)] dX4_fits_151 (by decide) rfl ?_
                        have L153 : ∀ (n153 : Nat) (v : Nat) (set : Int32) (t2 : Nat → Int32) (w2 : Nat → Int32), (0 ≤ v) → (v ≤ 3) → (set = orG (ftF 2 n k c j it (40 * q + a) mm) 0 (v - 0)) → 3 - v < n153 → zJ pX l eX (zRm 6 0 0) sX mX argsX blX mtX cX QX 14 (zI D A sX [mOb o ad x, [(ad 0, .inl (D.1 100, 8, .inl sz))], [(ad 2, .inl (D.1 100, 320, .inl it))], [(ad 5, .inl (D.1 100, 25, .inl c))], [(ad 10, .inl (D.1 100, 25, .inl t2))], [(ad 11, .inl (D.1 100, 25, .inl w2))]]) 0 0 153 [(0, .ref o), (1, .int (nI j)), (2, .int (nI q)), (3, .int (nI a)), (4, .int (nI mm)), (5, .int 2), (6, .int set), (7, .int (nI (40 * q + a))), (8, .int 0), (9, .int 2), (10, .int (bI (mOn (c (2 + j))))), (11, .int (nI v))] [] := by
                          intro n153
                          induction n153 with
                          | zero => exact fun v set t2 w2 hlo hhi hv hm153 => absurd hm153 (Nat.not_lt_zero _)
                          | succ n153 ih153 =>
                            intro v set t2 w2 hlo hhi hv hm153
                            refine z_iload (pc := 153) gX 11 dX4_fits_153 rfl ?_
                            refine z_iload (pc := 155) gX 9 dX4_fits_155 rfl ?_
                            refine z_icmp_gt (pc := 157) gX 289 dX4_fits_157 (by decide) (fun c157 => ?_) (fun c157 => ?_)
                            · skip
                              have k157 : 2 < v := (zn_lt (a := 2) (b := v) (by omega) (by omega)).mp c157
                              refine z_aload_n (pc := 289) gX 0 dX4_fits_289 rfl rfl ?_
                              refine z_iload (pc := 290) gX 6 dX4_fits_290 rfl ?_
                              refine z_cMV (pc := 292) gX hAX [.int set] [] [0] [1, 2, 3, 4, 5] (fun A1 => met_X4_ends l D B0 A1 o ad x set ) q1457 q1459 qs28 q54 q1460 (zm 0 rfl) (ci := 4) rfl rfl hd_X4_ends ⟨rfl, rfl⟩ ⟨(Nat.le_of_ble_eq_true rfl), (Nat.le_of_ble_eq_true rfl)⟩ rfl rfl rfl rfl rfl (Nat.le_of_ble_eq_true rfl) ⟨(Nat.le_of_ble_eq_true rfl), (Nat.le_of_ble_eq_true rfl)⟩ dX4_fits_292 ?_
                              intro _ hu292
                              refine z_re [0, 1, 2, 3, 4, 5] [mOb o ad (mSt x set), [(ad 0, .inl (D.1 100, 8, .inl sz))], [(ad 2, .inl (D.1 100, 320, .inl it))], [(ad 5, .inl (D.1 100, 25, .inl c))], [(ad 10, .inl (D.1 100, 25, .inl t2))], [(ad 11, .inl (D.1 100, 25, .inl w2))]] rfl rfl ?_
                              refine z_eq (lv₂ := [(0, .ref o), (1, .int (nI j)), (2, .int (nI q)), (3, .int (nI a)), (4, .int (nI mm)), (5, .int 2), (6, .int set), (7, .int (nI (40 * q + a))), (8, .int 0), (9, .int 2), (10, .int (bI (mOn (c (2 + j))))), (11, .int (nI v))]) (st₂ := [.int set]) ?_ rfl rfl
                              exact z_rim gX hQX (set, mSt x set, t2, w2) (by rw [hv, show v = 3 by omega]; simp only [mFits, k5, k12, k23, k33, Bool.and_self, if_true, if_neg (Int32.not_lt.mpr c45), nI_clamp (show q < 2 ^ 31 by omega), k63, nI_clamp (show j < 2 ^ 31 by omega), nI_clamp (show mm < 2 ^ 31 by omega), nI_clamp (show a < 2 ^ 31 by omega), nI_clamp (show 2 < 2 ^ 31 by omega)]; rfl) rfl rfl (by first | decide | omega) (by first | decide | omega) dX4_fits_295
                            · skip
                              have k157 : v ≤ 2 := (zn_nlt (a := 2) (b := v) (by omega) (by omega)).mp c157
                              refine z_aload_n (pc := 160) gX 0 dX4_fits_160 rfl rfl ?_
                              refine z_cMV (pc := 161) gX hAX [] [] [0, 3, 4] [1, 2, 5] (fun A1 => met_X4_starts l D B0 A1 o ad x c t2 ) q1592 q1594 qs39 q54 q1595 (zm 0 rfl) (ci := 4) rfl rfl hd_X4_starts ⟨rfl, rfl⟩ ⟨(Nat.le_of_ble_eq_true rfl), (Nat.le_of_ble_eq_true rfl)⟩ rfl rfl rfl rfl rfl (Nat.le_of_ble_eq_true rfl) ⟨(Nat.le_of_ble_eq_true rfl), (Nat.le_of_ble_eq_true rfl)⟩ dX4_fits_161 ?_
                              intro _ hu161
                              refine z_re [0, 3, 4, 1, 2, 5] [mOb o ad x, [(ad 0, .inl (D.1 100, 8, .inl sz))], [(ad 2, .inl (D.1 100, 320, .inl it))], [(ad 5, .inl (D.1 100, 25, .inl c))], [(ad 10, .inl (D.1 100, 25, .inl c))], [(ad 11, .inl (D.1 100, 25, .inl w2))]] rfl rfl ?_
                              refine z_eq (lv₂ := [(0, .ref o), (1, .int (nI j)), (2, .int (nI q)), (3, .int (nI a)), (4, .int (nI mm)), (5, .int 2), (6, .int set), (7, .int (nI (40 * q + a))), (8, .int 0), (9, .int 2), (10, .int (bI (mOn (c (2 + j))))), (11, .int (nI v))]) (st₂ := []) ?_ rfl rfl
                              refine z_iload (pc := 164) gX 5 dX4_fits_164 rfl ?_
                              refine z_if_ne (pc := 166) gX 176 dX4_fits_166 (by decide) (fun c166 => ?_) (fun c166 => ?_)
                              · skip
                                refine z_iload (pc := 176) gX 5 dX4_fits_176 rfl ?_
                                refine z_iconst (pc := 178) gX 1 dX4_fits_178 (by decide) ?_
                                refine z_icmp_ne (pc := 179) gX 189 dX4_fits_179 (by decide) (fun c179 => ?_) (fun c179 => ?_)
                                · skip
                                  have k179 : ¬ 2 = 1 := fun h => c179 ((zn_eq (a := 2) (b := 1) (by omega) (by omega)).mpr h)
                                  refine z_iload (pc := 189) gX 5 dX4_fits_189 rfl ?_
                                  refine z_iconst (pc := 191) gX 2 dX4_fits_191 (by decide) ?_
                                  refine z_icmp_ne (pc := 192) gX 199 dX4_fits_192 (by decide) (fun c192 => ?_) (fun c192 => ?_)
                                  · skip
                                    have k192 : ¬ 2 = 2 := fun h => c192 ((zn_eq (a := 2) (b := 2) (by omega) (by omega)).mpr h)
                                    exact absurd c192 (by decide)
                                  · skip
                                    have k192 : 2 = 2 := (zn_eq (a := 2) (b := 2) (by omega) (by omega)).mp c192
                                    refine z_iconst (pc := 195) gX 1 dX4_fits_195 (by decide) ?_
                                    refine z_goto (pc := 196) gX 202 dX4_fits_196 (by decide) ?_
                                    refine z_istore (pc := 202) gX [1, 2, 3, 4, 5, 6, 7, 8, 9, 10, 11, 12, 0] [(0, .ref o), (1, .int (nI j)), (2, .int (nI q)), (3, .int (nI a)), (4, .int (nI mm)), (5, .int 2), (6, .int set), (7, .int (nI (40 * q + a))), (8, .int 0), (9, .int 2), (10, .int (bI (mOn (c (2 + j))))), (11, .int (nI v)), (12, .int 1)] dX4_fits_202 (by decide) rfl ?_
                                    refine z_iload (pc := 204) gX 5 dX4_fits_204 rfl ?_
                                    refine z_iconst (pc := 206) gX 3 dX4_fits_206 (by decide) ?_
                                    refine z_icmp_lt (pc := 207) gX 237 dX4_fits_207 (by decide) (fun c207 => ?_) (fun c207 => ?_)
                                    · skip
                                      have k207 : 2 < 3 := (zn_lt (a := 2) (b := 3) (by omega) (by omega)).mp c207
                                      refine z_iconst (pc := 237) gX 1 dX4_fits_237 (by decide) ?_
                                      refine z_goto (pc := 238) gX 242 dX4_fits_238 (by decide) ?_
                                      refine z_istore (pc := 242) gX [1, 2, 3, 4, 5, 6, 7, 8, 9, 10, 11, 12, 13, 0] [(0, .ref o), (1, .int (nI j)), (2, .int (nI q)), (3, .int (nI a)), (4, .int (nI mm)), (5, .int 2), (6, .int set), (7, .int (nI (40 * q + a))), (8, .int 0), (9, .int 2), (10, .int (bI (mOn (c (2 + j))))), (11, .int (nI v)), (12, .int 1), (13, .int 1)] dX4_fits_242 (by decide) rfl ?_
                                      refine z_aload_n (pc := 244) gX 0 dX4_fits_244 rfl rfl ?_
                                      refine z_get (pc := 245) gX (zI_ok gX hAX) (zm 0 rfl) (ci := 4) (C := RX4) (T := TX4) (N := 20) rfl in_X4 14 (by decide) q1397 (fun _ h => h) (v := .ref (ad 10)) rfl dX4_fits_245 ?_
                                      refine z_iload (pc := 248) gX 12 dX4_fits_248 rfl ?_
                                      refine z_iload (pc := 250) gX 11 dX4_fits_250 rfl ?_
                                      refine z_ixtop (nI 1) rfl ?_
                                      refine z_iast (pc := 252) gX hAX 4 (j := 1) (n := 25) (f := c) rfl (by omega) (by decide) [mOb o ad x, [(ad 0, .inl (D.1 100, 8, .inl sz))], [(ad 2, .inl (D.1 100, 320, .inl it))], [(ad 5, .inl (D.1 100, 25, .inl c))], [(ad 10, .inl (D.1 100, 25, .inl (upd c 1 (nI v))))], [(ad 11, .inl (D.1 100, 25, .inl w2))]] rfl dX4_fits_252 ?_
                                      refine z_iload (pc := 253) gX 6 dX4_fits_253 rfl ?_
                                      refine z_iload (pc := 255) gX 13 dX4_fits_255 rfl ?_
                                      refine z_if_eq (pc := 257) gX 279 dX4_fits_257 (by decide) (fun c257 => ?_) (fun c257 => ?_)
                                      · skip
                                        exact absurd c257 (by decide)
                                      · skip
                                        refine z_aload_n (pc := 260) gX 0 dX4_fits_260 rfl rfl ?_
                                        refine z_iload_n (pc := 261) gX 1 dX4_fits_261 rfl rfl ?_
                                        refine z_iload (pc := 262) gX 7 dX4_fits_262 rfl ?_
                                        refine z_iload (pc := 264) gX 4 dX4_fits_264 rfl ?_
                                        refine z_cMV (pc := 266) gX hAX [.int (nI j), .int (nI (40 * q + a)), .int (nI mm)] [.int set] [0, 2, 4, 5] [1, 3] (fun A1 => met_X4_isSo l D B0 A1 o ad x it (upd c 1 (nI v)) w2 n k j (40 * q + a) mm (by rw [pk_un (by omega)]; exact hn) (by first | assumption | omega) (by rw [pk_un (by omega)]; exact hk) (by first | assumption | omega) (by first | assumption | omega) (by first | assumption | omega)) q1636 q1638 qs42 q54 q1639 (zm 0 rfl) (ci := 4) rfl rfl hd_X4_isSo ⟨rfl, rfl⟩ ⟨(Nat.le_of_ble_eq_true rfl), (Nat.le_of_ble_eq_true rfl)⟩ rfl rfl rfl rfl rfl (Nat.le_of_ble_eq_true rfl) ⟨(Nat.le_of_ble_eq_true rfl), (Nat.le_of_ble_eq_true rfl)⟩ dX4_fits_266 ?_
                                        intro u266 hu266
                                        obtain ⟨th1_266, wn1_266⟩ := u266
                                        refine z_re [0, 4, 1, 5, 2, 3] [mOb o ad x, [(ad 0, .inl (D.1 100, 8, .inl sz))], [(ad 2, .inl (D.1 100, 320, .inl it))], [(ad 5, .inl (D.1 100, 25, .inl c))], [(ad 10, .inl (D.1 100, 25, .inl th1_266))], [(ad 11, .inl (D.1 100, 25, .inl wn1_266))]] rfl rfl ?_
                                        refine z_eq (lv₂ := [(0, .ref o), (1, .int (nI j)), (2, .int (nI q)), (3, .int (nI a)), (4, .int (nI mm)), (5, .int 2), (6, .int set), (7, .int (nI (40 * q + a))), (8, .int 0), (9, .int 2), (10, .int (bI (mOn (c (2 + j))))), (11, .int (nI v)), (12, .int 1), (13, .int 1)]) (st₂ := [.int (bI (soP n k (upd c 1 (nI v)) j it (40 * q + a) mm)), .int set]) ?_ rfl rfl
                                        refine z_if_eq (pc := 269) gX 279 dX4_fits_269 (by decide) (fun c269 => ?_) (fun c269 => ?_)
                                        · skip
                                          have k269 : (soP n k (upd c 1 (nI v)) j it (40 * q + a) mm) = false := bI_eq0 c269
                                          refine z_iconst (pc := 279) gX 0 dX4_fits_279 (by decide) ?_
                                          refine z_ior (pc := 280) gX dX4_fits_280 ?_
                                          refine z_istore (pc := 281) gX [1, 2, 3, 4, 5, 6, 0, 7, 8, 9, 10, 11, 12, 13] [(0, .ref o), (1, .int (nI j)), (2, .int (nI q)), (3, .int (nI a)), (4, .int (nI mm)), (5, .int 2), (6, .int (set ||| 0)), (7, .int (nI (40 * q + a))), (8, .int 0), (9, .int 2), (10, .int (bI (mOn (c (2 + j))))), (11, .int (nI v)), (12, .int 1), (13, .int 1)] dX4_fits_281 (by decide) rfl ?_
                                          refine z_iinc (pc := 283) gX 11 (nI (v + 1)) [1, 2, 3, 4, 5, 6, 7, 8, 9, 10, 11, 0, 12, 13] [(0, .ref o), (1, .int (nI j)), (2, .int (nI q)), (3, .int (nI a)), (4, .int (nI mm)), (5, .int 2), (6, .int (set ||| 0)), (7, .int (nI (40 * q + a))), (8, .int 0), (9, .int 2), (10, .int (bI (mOn (c (2 + j))))), (11, .int (nI (v + 1))), (12, .int 1), (13, .int 1)] dX4_fits_283 rfl (nI_1 _) (by decide) rfl ?_
                                          refine z_goto (pc := 286) gX 153 dX4_fits_286 (by decide) ?_
                                          refine z_lv [0, 1, 2, 3, 4, 5, 6, 7, 8, 9, 10, 11] [(0, .ref o), (1, .int (nI j)), (2, .int (nI q)), (3, .int (nI a)), (4, .int (nI mm)), (5, .int 2), (6, .int (set ||| 0)), (7, .int (nI (40 * q + a))), (8, .int 0), (9, .int 2), (10, .int (bI (mOn (c (2 + j))))), (11, .int (nI (v + 1)))] rfl ?_
                                          exact ih153 (v + 1) (set ||| 0) th1_266 wn1_266 (by omega) (by omega) (by rw [orG_s (by omega), ← hv]; congr 1; simp [ftF, mayW, layW, k269]) (by omega)
                                        · skip
                                          have k269 : (soP n k (upd c 1 (nI v)) j it (40 * q + a) mm) = true := bI_ne0 c269
                                          refine z_iconst (pc := 272) gX 1 dX4_fits_272 (by decide) ?_
                                          refine z_iload (pc := 273) gX 11 dX4_fits_273 rfl ?_
                                          refine z_ishl (pc := 275) gX dX4_fits_275 ?_
                                          refine z_goto (pc := 276) gX 280 dX4_fits_276 (by decide) ?_
                                          refine z_ior (pc := 280) gX dX4_fits_280 ?_
                                          refine z_istore (pc := 281) gX [1, 2, 3, 4, 5, 6, 0, 7, 8, 9, 10, 11, 12, 13] [(0, .ref o), (1, .int (nI j)), (2, .int (nI q)), (3, .int (nI a)), (4, .int (nI mm)), (5, .int 2), (6, .int (set ||| (1 <<< ((nI v) &&& 31)))), (7, .int (nI (40 * q + a))), (8, .int 0), (9, .int 2), (10, .int (bI (mOn (c (2 + j))))), (11, .int (nI v)), (12, .int 1), (13, .int 1)] dX4_fits_281 (by decide) rfl ?_
                                          refine z_iinc (pc := 283) gX 11 (nI (v + 1)) [1, 2, 3, 4, 5, 6, 7, 8, 9, 10, 11, 0, 12, 13] [(0, .ref o), (1, .int (nI j)), (2, .int (nI q)), (3, .int (nI a)), (4, .int (nI mm)), (5, .int 2), (6, .int (set ||| (1 <<< ((nI v) &&& 31)))), (7, .int (nI (40 * q + a))), (8, .int 0), (9, .int 2), (10, .int (bI (mOn (c (2 + j))))), (11, .int (nI (v + 1))), (12, .int 1), (13, .int 1)] dX4_fits_283 rfl (nI_1 _) (by decide) rfl ?_
                                          refine z_goto (pc := 286) gX 153 dX4_fits_286 (by decide) ?_
                                          refine z_lv [0, 1, 2, 3, 4, 5, 6, 7, 8, 9, 10, 11] [(0, .ref o), (1, .int (nI j)), (2, .int (nI q)), (3, .int (nI a)), (4, .int (nI mm)), (5, .int 2), (6, .int (set ||| (1 <<< ((nI v) &&& 31)))), (7, .int (nI (40 * q + a))), (8, .int 0), (9, .int 2), (10, .int (bI (mOn (c (2 + j))))), (11, .int (nI (v + 1)))] rfl ?_
                                          exact ih153 (v + 1) (set ||| (1 <<< ((nI v) &&& 31))) th1_266 wn1_266 (by omega) (by omega) (by rw [orG_s (by omega), ← hv]; congr 1; simp [ftF, mayW, layW, k269]) (by omega)
                                    · skip
                                      have k207 : 3 ≤ 2 := (zn_nlt (a := 2) (b := 3) (by omega) (by omega)).mp c207
                                      exact absurd c207 (by decide)
                                · skip
                                  have k179 : 2 = 1 := (zn_eq (a := 2) (b := 1) (by omega) (by omega)).mp c179
                                  exact absurd c179 (by decide)
                              · skip
                                exact absurd c166 (by decide)
                        exact L153 ((3 - 0) + 1) 0 0 th wn (by omega) (by omega) rfl (Nat.lt_succ_self _)
                    · skip
                      have k108 : 2 = 1 := (zn_eq (a := 2) (b := 1) (by omega) (by omega)).mp c108
                      exact absurd c108 (by decide)
                  · skip
                    exact absurd c98 (by decide)
                · skip
                  exact absurd c86 (by decide)
              · skip
                have k63 : (mLies (sz q) i (nI mm)) = false := bI_eq0 c63
                refine z_aload_n (pc := 66) gX 0 dX4_fits_66 rfl rfl ?_
                refine z_ldc (pc := 67) gX q1472 dX4_fits_67 ?_
                refine z_cMV (pc := 69) gX hAX [.int (-1000012)] [] [0] [1, 2, 3, 4, 5] (fun A1 => met_X4_ends l D B0 A1 o ad x (-1000012) ) q1457 q1459 qs28 q54 q1460 (zm 0 rfl) (ci := 4) rfl rfl hd_X4_ends ⟨rfl, rfl⟩ ⟨(Nat.le_of_ble_eq_true rfl), (Nat.le_of_ble_eq_true rfl)⟩ rfl rfl rfl rfl rfl (Nat.le_of_ble_eq_true rfl) ⟨(Nat.le_of_ble_eq_true rfl), (Nat.le_of_ble_eq_true rfl)⟩ dX4_fits_69 ?_
                intro _ hu69
                refine z_re [0, 1, 2, 3, 4, 5] [mOb o ad (mSt x (-1000012)), [(ad 0, .inl (D.1 100, 8, .inl sz))], [(ad 2, .inl (D.1 100, 320, .inl it))], [(ad 5, .inl (D.1 100, 25, .inl c))], [(ad 10, .inl (D.1 100, 25, .inl th))], [(ad 11, .inl (D.1 100, 25, .inl wn))]] rfl rfl ?_
                refine z_eq (lv₂ := [(0, .ref o), (1, .int (nI j)), (2, .int (nI q)), (3, .int i), (4, .int (nI mm)), (5, .int 2)]) (st₂ := [.int (-1000012)]) ?_ rfl rfl
                exact z_rim gX hQX ((-1000012), mSt x (-1000012), th, wn) (by simp [mFits, k5, k12, k23, k33, Int32.not_lt.mpr c45, nI_clamp (show q < 2 ^ 31 by omega), k63]) rfl rfl (by first | decide | omega) (by first | decide | omega) dX4_fits_72
            · skip
              refine z_aload_n (pc := 48) gX 0 dX4_fits_48 rfl rfl ?_
              refine z_ldc (pc := 49) gX q1462 dX4_fits_49 ?_
              refine z_cMV (pc := 51) gX hAX [.int (-1000011)] [] [0] [1, 2, 3, 4, 5] (fun A1 => met_X4_ends l D B0 A1 o ad x (-1000011) ) q1457 q1459 qs28 q54 q1460 (zm 0 rfl) (ci := 4) rfl rfl hd_X4_ends ⟨rfl, rfl⟩ ⟨(Nat.le_of_ble_eq_true rfl), (Nat.le_of_ble_eq_true rfl)⟩ rfl rfl rfl rfl rfl (Nat.le_of_ble_eq_true rfl) ⟨(Nat.le_of_ble_eq_true rfl), (Nat.le_of_ble_eq_true rfl)⟩ dX4_fits_51 ?_
              intro _ hu51
              refine z_re [0, 1, 2, 3, 4, 5] [mOb o ad (mSt x (-1000011)), [(ad 0, .inl (D.1 100, 8, .inl sz))], [(ad 2, .inl (D.1 100, 320, .inl it))], [(ad 5, .inl (D.1 100, 25, .inl c))], [(ad 10, .inl (D.1 100, 25, .inl th))], [(ad 11, .inl (D.1 100, 25, .inl wn))]] rfl rfl ?_
              refine z_eq (lv₂ := [(0, .ref o), (1, .int (nI j)), (2, .int (nI q)), (3, .int i), (4, .int (nI mm)), (5, .int 2)]) (st₂ := [.int (-1000011)]) ?_ rfl rfl
              exact z_rim gX hQX ((-1000011), mSt x (-1000011), th, wn) (by simp [mFits, k5, k12, k23, k33, Int32.not_le.mp c45, nI_clamp (show q < 2 ^ 31 by omega)]) rfl rfl (by first | decide | omega) (by first | decide | omega) dX4_fits_54
          · skip
            refine z_aload_n (pc := 39) gX 0 dX4_fits_39 rfl rfl ?_
            refine z_get (pc := 40) gX (zI_ok gX hAX) (zm 0 rfl) (ci := 4) (C := RX4) (T := TX4) (N := 20) rfl in_X4 0 (by decide) q1383 (fun _ h => h) (v := .ref (ad 0)) rfl dX4_fits_40 ?_
            refine z_iload_n (pc := 43) gX 2 dX4_fits_43 rfl rfl ?_
            refine z_iald (pc := 44) gX (zI_ok gX hAX) (j := q) (n := 8) (f := sz) (zm 1 rfl) (by omega) (by decide) dX4_fits_44 ?_
            refine z_if_ge (pc := 45) gX 55 dX4_fits_45 (by decide) (fun c45 => ?_) (fun c45 => ?_)
            · skip
              refine z_aload_n (pc := 55) gX 0 dX4_fits_55 rfl rfl ?_
              refine z_iload_n (pc := 56) gX 2 dX4_fits_56 rfl rfl ?_
              refine z_iload_n (pc := 57) gX 3 dX4_fits_57 rfl rfl ?_
              refine z_iload (pc := 58) gX 4 dX4_fits_58 rfl ?_
              refine z_cOV (pc := 60) gX (zI_ok gX hAX) [.int (nI q), .int i, .int (nI mm)] [] [0, 1] (met_X4_lies l D B0 o ad x sz q i (nI mm) (by first | assumption | omega)) q1468 q1470 qs29 q54 q1471 (zm 0 rfl) (ci := 4) rfl rfl hd_X4_lies ⟨rfl, rfl⟩ ⟨(Nat.le_of_ble_eq_true rfl), (Nat.le_of_ble_eq_true rfl)⟩ rfl rfl rfl (Nat.le_of_ble_eq_true rfl) ⟨(Nat.le_of_ble_eq_true rfl), (Nat.le_of_ble_eq_true rfl)⟩ dX4_fits_60 ?_
              intro _ hu60
              refine z_eq (lv₂ := [(0, .ref o), (1, .int (nI j)), (2, .int (nI q)), (3, .int i), (4, .int (nI mm)), (5, .int 3)]) (st₂ := [.int (bI (mLies (sz q) i (nI mm)))]) ?_ rfl rfl
              refine z_if_ne (pc := 63) gX 73 dX4_fits_63 (by decide) (fun c63 => ?_) (fun c63 => ?_)
              · skip
                have k63 : (mLies (sz q) i (nI mm)) = true := bI_ne0 c63
                obtain ⟨a, b, m0, hai, hb1, hzm, hab, hm⟩ := mLies_nat k63 (hsz q (by omega))
                subst hai
                have hbm := (zn_eq (by omega) (by omega)).mp hb1
                subst hbm
                have hk1 := hk1 (by omega)
                refine z_iconst (pc := 73) gX 0 dX4_fits_73 (by decide) ?_
                refine z_istore (pc := 74) gX [1, 2, 3, 4, 5, 6, 0] [(0, .ref o), (1, .int (nI j)), (2, .int (nI q)), (3, .int (nI a)), (4, .int (nI mm)), (5, .int 3), (6, .int 0)] dX4_fits_74 (by decide) rfl ?_
                refine z_bipush (pc := 76) gX 40 dX4_fits_76 (by decide) ?_
                refine z_iload_n (pc := 78) gX 2 dX4_fits_78 rfl rfl ?_
                refine z_imul (pc := 79) gX dX4_fits_79 ?_
                refine z_top (nI (40 * q)) (pk_mul 40 q) ?_
                refine z_iload_n (pc := 80) gX 3 dX4_fits_80 rfl rfl ?_
                refine z_iadd (pc := 81) gX dX4_fits_81 ?_
                refine z_top (nI (40 * q + a)) (nI_add (40 * q) a) ?_
                refine z_istore (pc := 82) gX [1, 2, 3, 4, 5, 6, 7, 0] [(0, .ref o), (1, .int (nI j)), (2, .int (nI q)), (3, .int (nI a)), (4, .int (nI mm)), (5, .int 3), (6, .int 0), (7, .int (nI (40 * q + a)))] dX4_fits_82 (by decide) rfl ?_
                refine z_iload (pc := 84) gX 5 dX4_fits_84 rfl ?_
                refine z_if_ne (pc := 86) gX 93 dX4_fits_86 (by decide) (fun c86 => ?_) (fun c86 => ?_)
                · skip
                  refine z_iconst (pc := 93) gX 0 dX4_fits_93 (by decide) ?_
                  refine z_istore (pc := 94) gX [1, 2, 3, 4, 5, 6, 7, 8, 0] [(0, .ref o), (1, .int (nI j)), (2, .int (nI q)), (3, .int (nI a)), (4, .int (nI mm)), (5, .int 3), (6, .int 0), (7, .int (nI (40 * q + a))), (8, .int 0)] dX4_fits_94 (by decide) rfl ?_
                  refine z_iload (pc := 96) gX 5 dX4_fits_96 rfl ?_
                  refine z_if_ne (pc := 98) gX 105 dX4_fits_98 (by decide) (fun c98 => ?_) (fun c98 => ?_)
                  · skip
                    refine z_iload (pc := 105) gX 5 dX4_fits_105 rfl ?_
                    refine z_iconst (pc := 107) gX 1 dX4_fits_107 (by decide) ?_
                    refine z_icmp_ne (pc := 108) gX 115 dX4_fits_108 (by decide) (fun c108 => ?_) (fun c108 => ?_)
                    · skip
                      have k108 : ¬ 3 = 1 := fun h => c108 ((zn_eq (a := 3) (b := 1) (by omega) (by omega)).mpr h)
                      refine z_iload (pc := 115) gX 5 dX4_fits_115 rfl ?_
                      refine z_iconst (pc := 117) gX 2 dX4_fits_117 (by decide) ?_
                      refine z_icmp_ne (pc := 118) gX 125 dX4_fits_118 (by decide) (fun c118 => ?_) (fun c118 => ?_)
                      · skip
                        have k118 : ¬ 3 = 2 := fun h => c118 ((zn_eq (a := 3) (b := 2) (by omega) (by omega)).mpr h)
                        refine z_aload_n (pc := 125) gX 0 dX4_fits_125 rfl rfl ?_
                        refine z_get (pc := 126) gX (zI_ok gX hAX) (zm 0 rfl) (ci := 4) (C := RX4) (T := TX4) (N := 20) rfl in_X4 8 (by decide) q1391 (fun _ h => h) (v := .ref (ad 5)) rfl dX4_fits_126 ?_
                        refine z_bipush (pc := 129) gX 16 dX4_fits_129 (by decide) ?_
                        refine z_top (nI 16) rfl ?_
                        refine z_iald (pc := 131) gX (zI_ok gX hAX) (j := 16) (n := 25) (f := c) (zm 3 rfl) (by omega) (by decide) dX4_fits_131 ?_
                        refine z_top (nI k) hk ?_
                        refine z_iconst (pc := 132) gX 1 dX4_fits_132 (by decide) ?_
                        refine z_isub (pc := 133) gX dX4_fits_133 ?_
                        refine z_top (nI (k - 1)) (pk_sub hk1) ?_
                        refine z_istore (pc := 134) gX [1, 2, 3, 4, 5, 6, 7, 8, 9, 0] [(0, .ref o), (1, .int (nI j)), (2, .int (nI q)), (3, .int (nI a)), (4, .int (nI mm)), (5, .int 3), (6, .int 0), (7, .int (nI (40 * q + a))), (8, .int 0), (9, .int (nI (k - 1)))] dX4_fits_134 (by decide) rfl ?_
                        refine z_aload_n (pc := 136) gX 0 dX4_fits_136 rfl rfl ?_
                        refine z_get (pc := 137) gX (zI_ok gX hAX) (zm 0 rfl) (ci := 4) (C := RX4) (T := TX4) (N := 20) rfl in_X4 8 (by decide) q1391 (fun _ h => h) (v := .ref (ad 5)) rfl dX4_fits_137 ?_
                        refine z_iconst (pc := 140) gX 2 dX4_fits_140 (by decide) ?_
                        refine z_iload_n (pc := 141) gX 1 dX4_fits_141 rfl rfl ?_
                        refine z_iadd (pc := 142) gX dX4_fits_142 ?_
                        refine z_top (nI (2 + j)) (nI_add 2 j) ?_
                        refine z_iald (pc := 143) gX (zI_ok gX hAX) (j := (2 + j)) (n := 25) (f := c) (zm 3 rfl) (by omega) (by decide) dX4_fits_143 ?_
                        refine z_cOS (pc := 144) gX (zI_ok gX hAX) [.int (c (2 + j))] [] [] (met_X4_isOn l D B0 (c (2 + j)) ) q1550 q1551 q54 q1552 hd_X4_isOn ⟨rfl, rfl⟩ ⟨(Nat.le_of_ble_eq_true rfl), (Nat.le_of_ble_eq_true rfl)⟩ rfl rfl rfl (Nat.le_of_ble_eq_true rfl) ⟨(Nat.le_of_ble_eq_true rfl), (Nat.le_of_ble_eq_true rfl)⟩ dX4_fits_144 ?_
                        intro _ hu144
                        refine z_eq (lv₂ := [(0, .ref o), (1, .int (nI j)), (2, .int (nI q)), (3, .int (nI a)), (4, .int (nI mm)), (5, .int 3), (6, .int 0), (7, .int (nI (40 * q + a))), (8, .int 0), (9, .int (nI (k - 1)))]) (st₂ := [.int (bI (mOn (c (2 + j))))]) ?_ rfl rfl
                        refine z_istore (pc := 147) gX [1, 2, 3, 4, 5, 6, 7, 8, 9, 10, 0] [(0, .ref o), (1, .int (nI j)), (2, .int (nI q)), (3, .int (nI a)), (4, .int (nI mm)), (5, .int 3), (6, .int 0), (7, .int (nI (40 * q + a))), (8, .int 0), (9, .int (nI (k - 1))), (10, .int (bI (mOn (c (2 + j)))))] dX4_fits_147 (by decide) rfl ?_
                        refine z_iload (pc := 149) gX 8 dX4_fits_149 rfl ?_
                        refine z_istore (pc := 151) gX [1, 2, 3, 4, 5, 6, 7, 8, 9, 10, 11, 0] [(0, .ref o), (1, .int (nI j)), (2, .int (nI q)), (3, .int (nI a)), (4, .int (nI mm)), (5, .int 3), (6, .int 0), (7, .int (nI (40 * q + a))), (8, .int 0), (9, .int (nI (k - 1))), (10, .int (bI (mOn (c (2 + j))))), (11, .int 0)] dX4_fits_151 (by decide) rfl ?_
                        have L153 : ∀ (n153 : Nat) (v : Nat) (set : Int32) (t2 : Nat → Int32) (w2 : Nat → Int32), (0 ≤ v) → (v ≤ k) → (set = orG (ftF 3 n k c j it (40 * q + a) mm) 0 (v - 0)) → k - v < n153 → zJ pX l eX (zRm 6 0 0) sX mX argsX blX mtX cX QX 14 (zI D A sX [mOb o ad x, [(ad 0, .inl (D.1 100, 8, .inl sz))], [(ad 2, .inl (D.1 100, 320, .inl it))], [(ad 5, .inl (D.1 100, 25, .inl c))], [(ad 10, .inl (D.1 100, 25, .inl t2))], [(ad 11, .inl (D.1 100, 25, .inl w2))]]) 0 0 153 [(0, .ref o), (1, .int (nI j)), (2, .int (nI q)), (3, .int (nI a)), (4, .int (nI mm)), (5, .int 3), (6, .int set), (7, .int (nI (40 * q + a))), (8, .int 0), (9, .int (nI (k - 1))), (10, .int (bI (mOn (c (2 + j))))), (11, .int (nI v))] [] := by
                          intro n153
                          induction n153 with
                          | zero => exact fun v set t2 w2 hlo hhi hv hm153 => absurd hm153 (Nat.not_lt_zero _)
                          | succ n153 ih153 =>
                            intro v set t2 w2 hlo hhi hv hm153
                            refine z_iload (pc := 153) gX 11 dX4_fits_153 rfl ?_
                            refine z_iload (pc := 155) gX 9 dX4_fits_155 rfl ?_
                            refine z_icmp_gt (pc := 157) gX 289 dX4_fits_157 (by decide) (fun c157 => ?_) (fun c157 => ?_)
                            · skip
                              have k157 : k - 1 < v := (zn_lt (a := k - 1) (b := v) (by omega) (by omega)).mp c157
                              refine z_aload_n (pc := 289) gX 0 dX4_fits_289 rfl rfl ?_
                              refine z_iload (pc := 290) gX 6 dX4_fits_290 rfl ?_
                              refine z_cMV (pc := 292) gX hAX [.int set] [] [0] [1, 2, 3, 4, 5] (fun A1 => met_X4_ends l D B0 A1 o ad x set ) q1457 q1459 qs28 q54 q1460 (zm 0 rfl) (ci := 4) rfl rfl hd_X4_ends ⟨rfl, rfl⟩ ⟨(Nat.le_of_ble_eq_true rfl), (Nat.le_of_ble_eq_true rfl)⟩ rfl rfl rfl rfl rfl (Nat.le_of_ble_eq_true rfl) ⟨(Nat.le_of_ble_eq_true rfl), (Nat.le_of_ble_eq_true rfl)⟩ dX4_fits_292 ?_
                              intro _ hu292
                              refine z_re [0, 1, 2, 3, 4, 5] [mOb o ad (mSt x set), [(ad 0, .inl (D.1 100, 8, .inl sz))], [(ad 2, .inl (D.1 100, 320, .inl it))], [(ad 5, .inl (D.1 100, 25, .inl c))], [(ad 10, .inl (D.1 100, 25, .inl t2))], [(ad 11, .inl (D.1 100, 25, .inl w2))]] rfl rfl ?_
                              refine z_eq (lv₂ := [(0, .ref o), (1, .int (nI j)), (2, .int (nI q)), (3, .int (nI a)), (4, .int (nI mm)), (5, .int 3), (6, .int set), (7, .int (nI (40 * q + a))), (8, .int 0), (9, .int (nI (k - 1))), (10, .int (bI (mOn (c (2 + j))))), (11, .int (nI v))]) (st₂ := [.int set]) ?_ rfl rfl
                              exact z_rim gX hQX (set, mSt x set, t2, w2) (by rw [hv, show v = k by omega]; simp only [mFits, k5, k12, k23, k33, Bool.and_self, if_true, if_neg (Int32.not_lt.mpr c45), nI_clamp (show q < 2 ^ 31 by omega), k63, nI_clamp (show j < 2 ^ 31 by omega), nI_clamp (show mm < 2 ^ 31 by omega), nI_clamp (show a < 2 ^ 31 by omega), nI_clamp (show 3 < 2 ^ 31 by omega)]; rfl) rfl rfl (by first | decide | omega) (by first | decide | omega) dX4_fits_295
                            · skip
                              have k157 : v ≤ k - 1 := (zn_nlt (a := k - 1) (b := v) (by omega) (by omega)).mp c157
                              refine z_aload_n (pc := 160) gX 0 dX4_fits_160 rfl rfl ?_
                              refine z_cMV (pc := 161) gX hAX [] [] [0, 3, 4] [1, 2, 5] (fun A1 => met_X4_starts l D B0 A1 o ad x c t2 ) q1592 q1594 qs39 q54 q1595 (zm 0 rfl) (ci := 4) rfl rfl hd_X4_starts ⟨rfl, rfl⟩ ⟨(Nat.le_of_ble_eq_true rfl), (Nat.le_of_ble_eq_true rfl)⟩ rfl rfl rfl rfl rfl (Nat.le_of_ble_eq_true rfl) ⟨(Nat.le_of_ble_eq_true rfl), (Nat.le_of_ble_eq_true rfl)⟩ dX4_fits_161 ?_
                              intro _ hu161
                              refine z_re [0, 3, 4, 1, 2, 5] [mOb o ad x, [(ad 0, .inl (D.1 100, 8, .inl sz))], [(ad 2, .inl (D.1 100, 320, .inl it))], [(ad 5, .inl (D.1 100, 25, .inl c))], [(ad 10, .inl (D.1 100, 25, .inl c))], [(ad 11, .inl (D.1 100, 25, .inl w2))]] rfl rfl ?_
                              refine z_eq (lv₂ := [(0, .ref o), (1, .int (nI j)), (2, .int (nI q)), (3, .int (nI a)), (4, .int (nI mm)), (5, .int 3), (6, .int set), (7, .int (nI (40 * q + a))), (8, .int 0), (9, .int (nI (k - 1))), (10, .int (bI (mOn (c (2 + j))))), (11, .int (nI v))]) (st₂ := []) ?_ rfl rfl
                              refine z_iload (pc := 164) gX 5 dX4_fits_164 rfl ?_
                              refine z_if_ne (pc := 166) gX 176 dX4_fits_166 (by decide) (fun c166 => ?_) (fun c166 => ?_)
                              · skip
                                refine z_iload (pc := 176) gX 5 dX4_fits_176 rfl ?_
                                refine z_iconst (pc := 178) gX 1 dX4_fits_178 (by decide) ?_
                                refine z_icmp_ne (pc := 179) gX 189 dX4_fits_179 (by decide) (fun c179 => ?_) (fun c179 => ?_)
                                · skip
                                  have k179 : ¬ 3 = 1 := fun h => c179 ((zn_eq (a := 3) (b := 1) (by omega) (by omega)).mpr h)
                                  refine z_iload (pc := 189) gX 5 dX4_fits_189 rfl ?_
                                  refine z_iconst (pc := 191) gX 2 dX4_fits_191 (by decide) ?_
                                  refine z_icmp_ne (pc := 192) gX 199 dX4_fits_192 (by decide) (fun c192 => ?_) (fun c192 => ?_)
                                  · skip
                                    have k192 : ¬ 3 = 2 := fun h => c192 ((zn_eq (a := 3) (b := 2) (by omega) (by omega)).mpr h)
                                    refine z_iconst (pc := 199) gX 2 dX4_fits_199 (by decide) ?_
                                    refine z_iload_n (pc := 200) gX 1 dX4_fits_200 rfl rfl ?_
                                    refine z_iadd (pc := 201) gX dX4_fits_201 ?_
                                    refine z_top (nI (2 + j)) (nI_add 2 j) ?_
                                    refine z_istore (pc := 202) gX [1, 2, 3, 4, 5, 6, 7, 8, 9, 10, 11, 12, 0] [(0, .ref o), (1, .int (nI j)), (2, .int (nI q)), (3, .int (nI a)), (4, .int (nI mm)), (5, .int 3), (6, .int set), (7, .int (nI (40 * q + a))), (8, .int 0), (9, .int (nI (k - 1))), (10, .int (bI (mOn (c (2 + j))))), (11, .int (nI v)), (12, .int (nI (2 + j)))] dX4_fits_202 (by decide) rfl ?_
                                    refine z_iload (pc := 204) gX 5 dX4_fits_204 rfl ?_
                                    refine z_iconst (pc := 206) gX 3 dX4_fits_206 (by decide) ?_
                                    refine z_icmp_lt (pc := 207) gX 237 dX4_fits_207 (by decide) (fun c207 => ?_) (fun c207 => ?_)
                                    · skip
                                      have k207 : 3 < 3 := (zn_lt (a := 3) (b := 3) (by omega) (by omega)).mp c207
                                      exact absurd c207 (by decide)
                                    · skip
                                      have k207 : 3 ≤ 3 := (zn_nlt (a := 3) (b := 3) (by omega) (by omega)).mp c207
                                      refine z_iload (pc := 210) gX 10 dX4_fits_210 rfl ?_
                                      refine z_if_eq (pc := 212) gX 241 dX4_fits_212 (by decide) (fun c212 => ?_) (fun c212 => ?_)
                                      · skip
                                        have k212 : (mOn (c (2 + j))) = false := bI_eq0 c212
                                        refine z_iconst (pc := 241) gX 0 dX4_fits_241 (by decide) ?_
                                        refine z_istore (pc := 242) gX [1, 2, 3, 4, 5, 6, 7, 8, 9, 10, 11, 12, 13, 0] [(0, .ref o), (1, .int (nI j)), (2, .int (nI q)), (3, .int (nI a)), (4, .int (nI mm)), (5, .int 3), (6, .int set), (7, .int (nI (40 * q + a))), (8, .int 0), (9, .int (nI (k - 1))), (10, .int (bI (mOn (c (2 + j))))), (11, .int (nI v)), (12, .int (nI (2 + j))), (13, .int 0)] dX4_fits_242 (by decide) rfl ?_
                                        refine z_aload_n (pc := 244) gX 0 dX4_fits_244 rfl rfl ?_
                                        refine z_get (pc := 245) gX (zI_ok gX hAX) (zm 0 rfl) (ci := 4) (C := RX4) (T := TX4) (N := 20) rfl in_X4 14 (by decide) q1397 (fun _ h => h) (v := .ref (ad 10)) rfl dX4_fits_245 ?_
                                        refine z_iload (pc := 248) gX 12 dX4_fits_248 rfl ?_
                                        refine z_iload (pc := 250) gX 11 dX4_fits_250 rfl ?_
                                        refine z_iast (pc := 252) gX hAX 4 (j := (2 + j)) (n := 25) (f := c) rfl (by omega) (by decide) [mOb o ad x, [(ad 0, .inl (D.1 100, 8, .inl sz))], [(ad 2, .inl (D.1 100, 320, .inl it))], [(ad 5, .inl (D.1 100, 25, .inl c))], [(ad 10, .inl (D.1 100, 25, .inl (upd c (2 + j) (nI v))))], [(ad 11, .inl (D.1 100, 25, .inl w2))]] rfl dX4_fits_252 ?_
                                        refine z_iload (pc := 253) gX 6 dX4_fits_253 rfl ?_
                                        refine z_iload (pc := 255) gX 13 dX4_fits_255 rfl ?_
                                        refine z_if_eq (pc := 257) gX 279 dX4_fits_257 (by decide) (fun c257 => ?_) (fun c257 => ?_)
                                        · skip
                                          refine z_iconst (pc := 279) gX 0 dX4_fits_279 (by decide) ?_
                                          refine z_ior (pc := 280) gX dX4_fits_280 ?_
                                          refine z_istore (pc := 281) gX [1, 2, 3, 4, 5, 6, 0, 7, 8, 9, 10, 11, 12, 13] [(0, .ref o), (1, .int (nI j)), (2, .int (nI q)), (3, .int (nI a)), (4, .int (nI mm)), (5, .int 3), (6, .int (set ||| 0)), (7, .int (nI (40 * q + a))), (8, .int 0), (9, .int (nI (k - 1))), (10, .int (bI (mOn (c (2 + j))))), (11, .int (nI v)), (12, .int (nI (2 + j))), (13, .int 0)] dX4_fits_281 (by decide) rfl ?_
                                          refine z_iinc (pc := 283) gX 11 (nI (v + 1)) [1, 2, 3, 4, 5, 6, 7, 8, 9, 10, 11, 0, 12, 13] [(0, .ref o), (1, .int (nI j)), (2, .int (nI q)), (3, .int (nI a)), (4, .int (nI mm)), (5, .int 3), (6, .int (set ||| 0)), (7, .int (nI (40 * q + a))), (8, .int 0), (9, .int (nI (k - 1))), (10, .int (bI (mOn (c (2 + j))))), (11, .int (nI (v + 1))), (12, .int (nI (2 + j))), (13, .int 0)] dX4_fits_283 rfl (nI_1 _) (by decide) rfl ?_
                                          refine z_goto (pc := 286) gX 153 dX4_fits_286 (by decide) ?_
                                          refine z_lv [0, 1, 2, 3, 4, 5, 6, 7, 8, 9, 10, 11] [(0, .ref o), (1, .int (nI j)), (2, .int (nI q)), (3, .int (nI a)), (4, .int (nI mm)), (5, .int 3), (6, .int (set ||| 0)), (7, .int (nI (40 * q + a))), (8, .int 0), (9, .int (nI (k - 1))), (10, .int (bI (mOn (c (2 + j))))), (11, .int (nI (v + 1)))] rfl ?_
                                          exact ih153 (v + 1) (set ||| 0) (upd c (2 + j) (nI v)) w2 (by omega) (by omega) (by rw [orG_s (by omega), ← hv]; congr 1; simp [ftF, mayW, layW, k212]) (by omega)
                                        · skip
                                          exact absurd c257 (by decide)
                                      · skip
                                        have k212 : (mOn (c (2 + j))) = true := bI_ne0 c212
                                        refine z_aload_n (pc := 215) gX 0 dX4_fits_215 rfl rfl ?_
                                        refine z_get (pc := 216) gX (zI_ok gX hAX) (zm 0 rfl) (ci := 4) (C := RX4) (T := TX4) (N := 20) rfl in_X4 8 (by decide) q1391 (fun _ h => h) (v := .ref (ad 5)) rfl dX4_fits_216 ?_
                                        refine z_iload_n (pc := 219) gX 1 dX4_fits_219 rfl rfl ?_
                                        refine z_iload (pc := 220) gX 11 dX4_fits_220 rfl ?_
                                        refine z_aload_n (pc := 222) gX 0 dX4_fits_222 rfl rfl ?_
                                        refine z_get (pc := 223) gX (zI_ok gX hAX) (zm 0 rfl) (ci := 4) (C := RX4) (T := TX4) (N := 20) rfl in_X4 8 (by decide) q1391 (fun _ h => h) (v := .ref (ad 5)) rfl dX4_fits_223 ?_
                                        refine z_bipush (pc := 226) gX 9 dX4_fits_226 (by decide) ?_
                                        refine z_iload_n (pc := 228) gX 1 dX4_fits_228 rfl rfl ?_
                                        refine z_iadd (pc := 229) gX dX4_fits_229 ?_
                                        refine z_top (nI (9 + j)) (nI_add 9 j) ?_
                                        refine z_iald (pc := 230) gX (zI_ok gX hAX) (j := (9 + j)) (n := 25) (f := c) (zm 3 rfl) (by omega) (by decide) dX4_fits_230 ?_
                                        refine z_cOS (pc := 231) gX (zI_ok gX hAX) [.ref (ad 5), .int (nI j), .int (nI v), .int (c (9 + j))] [] [3] (met_X4_isFree l D B0 (ad 5) c n j (nI v) (c (9 + j)) (by first | assumption | omega) (by first | assumption | omega) (by first | assumption | omega)) q1547 q1548 q54 q1549 hd_X4_isFree ⟨rfl, rfl⟩ ⟨(Nat.le_of_ble_eq_true rfl), (Nat.le_of_ble_eq_true rfl)⟩ rfl rfl rfl (Nat.le_of_ble_eq_true rfl) ⟨(Nat.le_of_ble_eq_true rfl), (Nat.le_of_ble_eq_true rfl)⟩ dX4_fits_231 ?_
                                        intro _ hu231
                                        refine z_eq (lv₂ := [(0, .ref o), (1, .int (nI j)), (2, .int (nI q)), (3, .int (nI a)), (4, .int (nI mm)), (5, .int 3), (6, .int set), (7, .int (nI (40 * q + a))), (8, .int 0), (9, .int (nI (k - 1))), (10, .int (bI (mOn (c (2 + j))))), (11, .int (nI v)), (12, .int (nI (2 + j)))]) (st₂ := [.int (bI (mFreeTo c j (nI v) (c (9 + j)) n))]) ?_ rfl rfl
                                        refine z_if_eq (pc := 234) gX 241 dX4_fits_234 (by decide) (fun c234 => ?_) (fun c234 => ?_)
                                        · skip
                                          have k234 : (mFreeTo c j (nI v) (c (9 + j)) n) = false := bI_eq0 c234
                                          refine z_iconst (pc := 241) gX 0 dX4_fits_241 (by decide) ?_
                                          refine z_istore (pc := 242) gX [1, 2, 3, 4, 5, 6, 7, 8, 9, 10, 11, 12, 13, 0] [(0, .ref o), (1, .int (nI j)), (2, .int (nI q)), (3, .int (nI a)), (4, .int (nI mm)), (5, .int 3), (6, .int set), (7, .int (nI (40 * q + a))), (8, .int 0), (9, .int (nI (k - 1))), (10, .int (bI (mOn (c (2 + j))))), (11, .int (nI v)), (12, .int (nI (2 + j))), (13, .int 0)] dX4_fits_242 (by decide) rfl ?_
                                          refine z_aload_n (pc := 244) gX 0 dX4_fits_244 rfl rfl ?_
                                          refine z_get (pc := 245) gX (zI_ok gX hAX) (zm 0 rfl) (ci := 4) (C := RX4) (T := TX4) (N := 20) rfl in_X4 14 (by decide) q1397 (fun _ h => h) (v := .ref (ad 10)) rfl dX4_fits_245 ?_
                                          refine z_iload (pc := 248) gX 12 dX4_fits_248 rfl ?_
                                          refine z_iload (pc := 250) gX 11 dX4_fits_250 rfl ?_
                                          refine z_iast (pc := 252) gX hAX 4 (j := (2 + j)) (n := 25) (f := c) rfl (by omega) (by decide) [mOb o ad x, [(ad 0, .inl (D.1 100, 8, .inl sz))], [(ad 2, .inl (D.1 100, 320, .inl it))], [(ad 5, .inl (D.1 100, 25, .inl c))], [(ad 10, .inl (D.1 100, 25, .inl (upd c (2 + j) (nI v))))], [(ad 11, .inl (D.1 100, 25, .inl w2))]] rfl dX4_fits_252 ?_
                                          refine z_iload (pc := 253) gX 6 dX4_fits_253 rfl ?_
                                          refine z_iload (pc := 255) gX 13 dX4_fits_255 rfl ?_
                                          refine z_if_eq (pc := 257) gX 279 dX4_fits_257 (by decide) (fun c257 => ?_) (fun c257 => ?_)
                                          · skip
                                            refine z_iconst (pc := 279) gX 0 dX4_fits_279 (by decide) ?_
                                            refine z_ior (pc := 280) gX dX4_fits_280 ?_
                                            refine z_istore (pc := 281) gX [1, 2, 3, 4, 5, 6, 0, 7, 8, 9, 10, 11, 12, 13] [(0, .ref o), (1, .int (nI j)), (2, .int (nI q)), (3, .int (nI a)), (4, .int (nI mm)), (5, .int 3), (6, .int (set ||| 0)), (7, .int (nI (40 * q + a))), (8, .int 0), (9, .int (nI (k - 1))), (10, .int (bI (mOn (c (2 + j))))), (11, .int (nI v)), (12, .int (nI (2 + j))), (13, .int 0)] dX4_fits_281 (by decide) rfl ?_
                                            refine z_iinc (pc := 283) gX 11 (nI (v + 1)) [1, 2, 3, 4, 5, 6, 7, 8, 9, 10, 11, 0, 12, 13] [(0, .ref o), (1, .int (nI j)), (2, .int (nI q)), (3, .int (nI a)), (4, .int (nI mm)), (5, .int 3), (6, .int (set ||| 0)), (7, .int (nI (40 * q + a))), (8, .int 0), (9, .int (nI (k - 1))), (10, .int (bI (mOn (c (2 + j))))), (11, .int (nI (v + 1))), (12, .int (nI (2 + j))), (13, .int 0)] dX4_fits_283 rfl (nI_1 _) (by decide) rfl ?_
                                            refine z_goto (pc := 286) gX 153 dX4_fits_286 (by decide) ?_
                                            refine z_lv [0, 1, 2, 3, 4, 5, 6, 7, 8, 9, 10, 11] [(0, .ref o), (1, .int (nI j)), (2, .int (nI q)), (3, .int (nI a)), (4, .int (nI mm)), (5, .int 3), (6, .int (set ||| 0)), (7, .int (nI (40 * q + a))), (8, .int 0), (9, .int (nI (k - 1))), (10, .int (bI (mOn (c (2 + j))))), (11, .int (nI (v + 1)))] rfl ?_
                                            exact ih153 (v + 1) (set ||| 0) (upd c (2 + j) (nI v)) w2 (by omega) (by omega) (by rw [orG_s (by omega), ← hv]; congr 1; simp [ftF, mayW, layW, k212, k234]) (by omega)
                                          · skip
                                            exact absurd c257 (by decide)
                                        · skip
                                          have k234 : (mFreeTo c j (nI v) (c (9 + j)) n) = true := bI_ne0 c234
                                          refine z_iconst (pc := 237) gX 1 dX4_fits_237 (by decide) ?_
                                          refine z_goto (pc := 238) gX 242 dX4_fits_238 (by decide) ?_
                                          refine z_istore (pc := 242) gX [1, 2, 3, 4, 5, 6, 7, 8, 9, 10, 11, 12, 13, 0] [(0, .ref o), (1, .int (nI j)), (2, .int (nI q)), (3, .int (nI a)), (4, .int (nI mm)), (5, .int 3), (6, .int set), (7, .int (nI (40 * q + a))), (8, .int 0), (9, .int (nI (k - 1))), (10, .int (bI (mOn (c (2 + j))))), (11, .int (nI v)), (12, .int (nI (2 + j))), (13, .int 1)] dX4_fits_242 (by decide) rfl ?_
                                          refine z_aload_n (pc := 244) gX 0 dX4_fits_244 rfl rfl ?_
                                          refine z_get (pc := 245) gX (zI_ok gX hAX) (zm 0 rfl) (ci := 4) (C := RX4) (T := TX4) (N := 20) rfl in_X4 14 (by decide) q1397 (fun _ h => h) (v := .ref (ad 10)) rfl dX4_fits_245 ?_
                                          refine z_iload (pc := 248) gX 12 dX4_fits_248 rfl ?_
                                          refine z_iload (pc := 250) gX 11 dX4_fits_250 rfl ?_
                                          refine z_iast (pc := 252) gX hAX 4 (j := (2 + j)) (n := 25) (f := c) rfl (by omega) (by decide) [mOb o ad x, [(ad 0, .inl (D.1 100, 8, .inl sz))], [(ad 2, .inl (D.1 100, 320, .inl it))], [(ad 5, .inl (D.1 100, 25, .inl c))], [(ad 10, .inl (D.1 100, 25, .inl (upd c (2 + j) (nI v))))], [(ad 11, .inl (D.1 100, 25, .inl w2))]] rfl dX4_fits_252 ?_
                                          refine z_iload (pc := 253) gX 6 dX4_fits_253 rfl ?_
                                          refine z_iload (pc := 255) gX 13 dX4_fits_255 rfl ?_
                                          refine z_if_eq (pc := 257) gX 279 dX4_fits_257 (by decide) (fun c257 => ?_) (fun c257 => ?_)
                                          · skip
                                            exact absurd c257 (by decide)
                                          · skip
                                            refine z_aload_n (pc := 260) gX 0 dX4_fits_260 rfl rfl ?_
                                            refine z_iload_n (pc := 261) gX 1 dX4_fits_261 rfl rfl ?_
                                            refine z_iload (pc := 262) gX 7 dX4_fits_262 rfl ?_
                                            refine z_iload (pc := 264) gX 4 dX4_fits_264 rfl ?_
                                            refine z_cMV (pc := 266) gX hAX [.int (nI j), .int (nI (40 * q + a)), .int (nI mm)] [.int set] [0, 2, 4, 5] [1, 3] (fun A1 => met_X4_isSo l D B0 A1 o ad x it (upd c (2 + j) (nI v)) w2 n k j (40 * q + a) mm (by rw [pk_un (by omega)]; exact hn) (by first | assumption | omega) (by rw [pk_un (by omega)]; exact hk) (by first | assumption | omega) (by first | assumption | omega) (by first | assumption | omega)) q1636 q1638 qs42 q54 q1639 (zm 0 rfl) (ci := 4) rfl rfl hd_X4_isSo ⟨rfl, rfl⟩ ⟨(Nat.le_of_ble_eq_true rfl), (Nat.le_of_ble_eq_true rfl)⟩ rfl rfl rfl rfl rfl (Nat.le_of_ble_eq_true rfl) ⟨(Nat.le_of_ble_eq_true rfl), (Nat.le_of_ble_eq_true rfl)⟩ dX4_fits_266 ?_
                                            intro u266 hu266
                                            obtain ⟨th1_266, wn1_266⟩ := u266
                                            refine z_re [0, 4, 1, 5, 2, 3] [mOb o ad x, [(ad 0, .inl (D.1 100, 8, .inl sz))], [(ad 2, .inl (D.1 100, 320, .inl it))], [(ad 5, .inl (D.1 100, 25, .inl c))], [(ad 10, .inl (D.1 100, 25, .inl th1_266))], [(ad 11, .inl (D.1 100, 25, .inl wn1_266))]] rfl rfl ?_
                                            refine z_eq (lv₂ := [(0, .ref o), (1, .int (nI j)), (2, .int (nI q)), (3, .int (nI a)), (4, .int (nI mm)), (5, .int 3), (6, .int set), (7, .int (nI (40 * q + a))), (8, .int 0), (9, .int (nI (k - 1))), (10, .int (bI (mOn (c (2 + j))))), (11, .int (nI v)), (12, .int (nI (2 + j))), (13, .int 1)]) (st₂ := [.int (bI (soP n k (upd c (2 + j) (nI v)) j it (40 * q + a) mm)), .int set]) ?_ rfl rfl
                                            refine z_if_eq (pc := 269) gX 279 dX4_fits_269 (by decide) (fun c269 => ?_) (fun c269 => ?_)
                                            · skip
                                              have k269 : (soP n k (upd c (2 + j) (nI v)) j it (40 * q + a) mm) = false := bI_eq0 c269
                                              refine z_iconst (pc := 279) gX 0 dX4_fits_279 (by decide) ?_
                                              refine z_ior (pc := 280) gX dX4_fits_280 ?_
                                              refine z_istore (pc := 281) gX [1, 2, 3, 4, 5, 6, 0, 7, 8, 9, 10, 11, 12, 13] [(0, .ref o), (1, .int (nI j)), (2, .int (nI q)), (3, .int (nI a)), (4, .int (nI mm)), (5, .int 3), (6, .int (set ||| 0)), (7, .int (nI (40 * q + a))), (8, .int 0), (9, .int (nI (k - 1))), (10, .int (bI (mOn (c (2 + j))))), (11, .int (nI v)), (12, .int (nI (2 + j))), (13, .int 1)] dX4_fits_281 (by decide) rfl ?_
                                              refine z_iinc (pc := 283) gX 11 (nI (v + 1)) [1, 2, 3, 4, 5, 6, 7, 8, 9, 10, 11, 0, 12, 13] [(0, .ref o), (1, .int (nI j)), (2, .int (nI q)), (3, .int (nI a)), (4, .int (nI mm)), (5, .int 3), (6, .int (set ||| 0)), (7, .int (nI (40 * q + a))), (8, .int 0), (9, .int (nI (k - 1))), (10, .int (bI (mOn (c (2 + j))))), (11, .int (nI (v + 1))), (12, .int (nI (2 + j))), (13, .int 1)] dX4_fits_283 rfl (nI_1 _) (by decide) rfl ?_
                                              refine z_goto (pc := 286) gX 153 dX4_fits_286 (by decide) ?_
                                              refine z_lv [0, 1, 2, 3, 4, 5, 6, 7, 8, 9, 10, 11] [(0, .ref o), (1, .int (nI j)), (2, .int (nI q)), (3, .int (nI a)), (4, .int (nI mm)), (5, .int 3), (6, .int (set ||| 0)), (7, .int (nI (40 * q + a))), (8, .int 0), (9, .int (nI (k - 1))), (10, .int (bI (mOn (c (2 + j))))), (11, .int (nI (v + 1)))] rfl ?_
                                              exact ih153 (v + 1) (set ||| 0) th1_266 wn1_266 (by omega) (by omega) (by rw [orG_s (by omega), ← hv]; congr 1; simp [ftF, mayW, layW, k212, k234, k269]) (by omega)
                                            · skip
                                              have k269 : (soP n k (upd c (2 + j) (nI v)) j it (40 * q + a) mm) = true := bI_ne0 c269
                                              refine z_iconst (pc := 272) gX 1 dX4_fits_272 (by decide) ?_
                                              refine z_iload (pc := 273) gX 11 dX4_fits_273 rfl ?_
                                              refine z_ishl (pc := 275) gX dX4_fits_275 ?_
                                              refine z_goto (pc := 276) gX 280 dX4_fits_276 (by decide) ?_
                                              refine z_ior (pc := 280) gX dX4_fits_280 ?_
                                              refine z_istore (pc := 281) gX [1, 2, 3, 4, 5, 6, 0, 7, 8, 9, 10, 11, 12, 13] [(0, .ref o), (1, .int (nI j)), (2, .int (nI q)), (3, .int (nI a)), (4, .int (nI mm)), (5, .int 3), (6, .int (set ||| (1 <<< ((nI v) &&& 31)))), (7, .int (nI (40 * q + a))), (8, .int 0), (9, .int (nI (k - 1))), (10, .int (bI (mOn (c (2 + j))))), (11, .int (nI v)), (12, .int (nI (2 + j))), (13, .int 1)] dX4_fits_281 (by decide) rfl ?_
                                              refine z_iinc (pc := 283) gX 11 (nI (v + 1)) [1, 2, 3, 4, 5, 6, 7, 8, 9, 10, 11, 0, 12, 13] [(0, .ref o), (1, .int (nI j)), (2, .int (nI q)), (3, .int (nI a)), (4, .int (nI mm)), (5, .int 3), (6, .int (set ||| (1 <<< ((nI v) &&& 31)))), (7, .int (nI (40 * q + a))), (8, .int 0), (9, .int (nI (k - 1))), (10, .int (bI (mOn (c (2 + j))))), (11, .int (nI (v + 1))), (12, .int (nI (2 + j))), (13, .int 1)] dX4_fits_283 rfl (nI_1 _) (by decide) rfl ?_
                                              refine z_goto (pc := 286) gX 153 dX4_fits_286 (by decide) ?_
                                              refine z_lv [0, 1, 2, 3, 4, 5, 6, 7, 8, 9, 10, 11] [(0, .ref o), (1, .int (nI j)), (2, .int (nI q)), (3, .int (nI a)), (4, .int (nI mm)), (5, .int 3), (6, .int (set ||| (1 <<< ((nI v) &&& 31)))), (7, .int (nI (40 * q + a))), (8, .int 0), (9, .int (nI (k - 1))), (10, .int (bI (mOn (c (2 + j))))), (11, .int (nI (v + 1)))] rfl ?_
                                              exact ih153 (v + 1) (set ||| (1 <<< ((nI v) &&& 31))) th1_266 wn1_266 (by omega) (by omega) (by rw [orG_s (by omega), ← hv]; congr 1; simp [ftF, mayW, layW, k212, k234, k269]) (by omega)
                                  · skip
                                    have k192 : 3 = 2 := (zn_eq (a := 3) (b := 2) (by omega) (by omega)).mp c192
                                    exact absurd c192 (by decide)
                                · skip
                                  have k179 : 3 = 1 := (zn_eq (a := 3) (b := 1) (by omega) (by omega)).mp c179
                                  exact absurd c179 (by decide)
                              · skip
                                exact absurd c166 (by decide)
                        exact L153 ((k - 0) + 1) 0 0 th wn (by omega) (by omega) rfl (Nat.lt_succ_self _)
                      · skip
                        have k118 : 3 = 2 := (zn_eq (a := 3) (b := 2) (by omega) (by omega)).mp c118
                        exact absurd c118 (by decide)
                    · skip
                      have k108 : 3 = 1 := (zn_eq (a := 3) (b := 1) (by omega) (by omega)).mp c108
                      exact absurd c108 (by decide)
                  · skip
                    exact absurd c98 (by decide)
                · skip
                  exact absurd c86 (by decide)
              · skip
                have k63 : (mLies (sz q) i (nI mm)) = false := bI_eq0 c63
                refine z_aload_n (pc := 66) gX 0 dX4_fits_66 rfl rfl ?_
                refine z_ldc (pc := 67) gX q1472 dX4_fits_67 ?_
                refine z_cMV (pc := 69) gX hAX [.int (-1000012)] [] [0] [1, 2, 3, 4, 5] (fun A1 => met_X4_ends l D B0 A1 o ad x (-1000012) ) q1457 q1459 qs28 q54 q1460 (zm 0 rfl) (ci := 4) rfl rfl hd_X4_ends ⟨rfl, rfl⟩ ⟨(Nat.le_of_ble_eq_true rfl), (Nat.le_of_ble_eq_true rfl)⟩ rfl rfl rfl rfl rfl (Nat.le_of_ble_eq_true rfl) ⟨(Nat.le_of_ble_eq_true rfl), (Nat.le_of_ble_eq_true rfl)⟩ dX4_fits_69 ?_
                intro _ hu69
                refine z_re [0, 1, 2, 3, 4, 5] [mOb o ad (mSt x (-1000012)), [(ad 0, .inl (D.1 100, 8, .inl sz))], [(ad 2, .inl (D.1 100, 320, .inl it))], [(ad 5, .inl (D.1 100, 25, .inl c))], [(ad 10, .inl (D.1 100, 25, .inl th))], [(ad 11, .inl (D.1 100, 25, .inl wn))]] rfl rfl ?_
                refine z_eq (lv₂ := [(0, .ref o), (1, .int (nI j)), (2, .int (nI q)), (3, .int i), (4, .int (nI mm)), (5, .int 3)]) (st₂ := [.int (-1000012)]) ?_ rfl rfl
                exact z_rim gX hQX ((-1000012), mSt x (-1000012), th, wn) (by simp [mFits, k5, k12, k23, k33, Int32.not_lt.mpr c45, nI_clamp (show q < 2 ^ 31 by omega), k63]) rfl rfl (by first | decide | omega) (by first | decide | omega) dX4_fits_72
            · skip
              refine z_aload_n (pc := 48) gX 0 dX4_fits_48 rfl rfl ?_
              refine z_ldc (pc := 49) gX q1462 dX4_fits_49 ?_
              refine z_cMV (pc := 51) gX hAX [.int (-1000011)] [] [0] [1, 2, 3, 4, 5] (fun A1 => met_X4_ends l D B0 A1 o ad x (-1000011) ) q1457 q1459 qs28 q54 q1460 (zm 0 rfl) (ci := 4) rfl rfl hd_X4_ends ⟨rfl, rfl⟩ ⟨(Nat.le_of_ble_eq_true rfl), (Nat.le_of_ble_eq_true rfl)⟩ rfl rfl rfl rfl rfl (Nat.le_of_ble_eq_true rfl) ⟨(Nat.le_of_ble_eq_true rfl), (Nat.le_of_ble_eq_true rfl)⟩ dX4_fits_51 ?_
              intro _ hu51
              refine z_re [0, 1, 2, 3, 4, 5] [mOb o ad (mSt x (-1000011)), [(ad 0, .inl (D.1 100, 8, .inl sz))], [(ad 2, .inl (D.1 100, 320, .inl it))], [(ad 5, .inl (D.1 100, 25, .inl c))], [(ad 10, .inl (D.1 100, 25, .inl th))], [(ad 11, .inl (D.1 100, 25, .inl wn))]] rfl rfl ?_
              refine z_eq (lv₂ := [(0, .ref o), (1, .int (nI j)), (2, .int (nI q)), (3, .int i), (4, .int (nI mm)), (5, .int 3)]) (st₂ := [.int (-1000011)]) ?_ rfl rfl
              exact z_rim gX hQX ((-1000011), mSt x (-1000011), th, wn) (by simp [mFits, k5, k12, k23, k33, Int32.not_le.mp c45, nI_clamp (show q < 2 ^ 31 by omega)]) rfl rfl (by first | decide | omega) (by first | decide | omega) dX4_fits_54
        · skip
          have k33 : (mIn w 0 3) = false := bI_eq0 c33
          refine z_ldc (pc := 36) gX q1455 dX4_fits_36 ?_
          exact z_rim gX hQX ((-1000001), x, th, wn) (by simp [mFits, k5, k12, k23, k33]) rfl rfl (by first | decide | omega) (by first | decide | omega) dX4_fits_38
theorem hd_X4_fits : zHd yX4_fits 5 := by unfold zHd; decide +kernel

