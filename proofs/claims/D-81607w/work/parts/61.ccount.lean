set_option maxRecDepth 100000
/-! count -/
theorem sl_mem {D : va_G} {sh : Nat → Nat} {rw : Nat → rT} {i : Nat} (h : i < 8) : (sh i, (.inr (1, [rwV (rw i)]) : va_E)) ∈ slP D sh rw 8 := (sl_o (D := D) (sh := sh) (rw := rw) h).mem_iff.mpr (List.mem_append_left _ List.mem_cons_self)
theorem sl_memN {D : va_G} {sh : Nat → Nat} {rw : Nat → rT} {i : Nat} (h : i < 8) (hr : rw i = none) : (sh i, (.inr (1, [.null]) : va_E)) ∈ slP D sh rw 8 := by have := sl_mem (D := D) (sh := sh) (rw := rw) h; rw [hr] at this; exact this
theorem sl_memS {D : va_G} {sh : Nat → Nat} {rw : Nat → rT} {i a : Nat} {r : Nat × Nat × (Nat → Int32)} (h : i < 8) (hr : rw i = some (a, r)) : (sh i, (.inr (1, [.ref a]) : va_E)) ∈ slP D sh rw 8 := by have := sl_mem (D := D) (sh := sh) (rw := rw) h; rw [hr] at this; exact this
theorem cntB_V {c : Nat → Int32} {v : Int32} : ∀ n, cntB (fun r => decide (c (2 + r) = v)) n = cntV c v n
  | 0 => rfl
  | n + 1 => by simp only [cntB, cntV, cntB_V n, decide_eq_true_eq]
theorem popc_q {c : Nat → Int32} {n : Nat} (h : n ≤ 7) : popc (qN c n) = cntV c (-1) n := by rw [← tN_q, popc_t _ _ n h, cW_c]
theorem on_sum {c : Nat → Int32} : ∀ n, cntB (fun r => mOn (c (2 + r))) n + cntV c (-1) n + cntV c 99 n = n
  | 0 => rfl
  | n + 1 => by
    have ih := on_sum (c := c) n
    simp only [cntB, cntV, mOn]
    by_cases h1 : c (2 + n) = -1
    · have h2 : ¬ c (2 + n) = 99 := by rw [h1]; decide
      simp only [h1]; simp; simp only [mOn] at ih; omega
    · by_cases h2 : c (2 + n) = 99
      · simp only [h2]; simp; simp only [mOn] at ih; omega
      · simp only [h1, h2]; simp; simp only [mOn] at ih; omega
theorem on_eq {c : Nat → Int32} {n : Nat} : nI n - nI (cntV c (-1) n) - nI (cntV c 99 n) = nI (cntB (fun r => mOn (c (2 + r))) n) := by
  have h := on_sum (c := c) n
  rw [pk_sub (a := n) (b := cntV c (-1) n) (by omega), pk_sub (a := n - cntV c (-1) n) (b := cntV c 99 n) (by omega)]
  congr 1
  omega

set_option maxHeartbeats 4000000 in
theorem met_X0_count (l : Launch) (D : va_G) (B0 : Nat) (o : Nat) (ad : Nat → Nat) (sa : Nat → Nat) (sb : Nat → Nat) (tr : Nat) (x : Nat → Int32) (da : Option Nat) (n : Nat) (ra : Nat → Nat) (md : Int32) (wn : Int32) (od : Nat → Int32) (c : Nat → Int32) (T : va_W) (k : Nat) (sh : Nat → Nat) (rw : Nat → rT) (xm : Nat → Int32) (sz : Nat → Int32) (wd : Nat → Int32) (it : Nat → Int32) (w : Int32) (hS : sOK T da n k ra c) (hx0 : x 0 = xm 1) (hx2 : x 2 = xm 3) (hW : rwR rw sz wd it) : Met l yX0_count (ws_ yX0_count cX0_count 4 (some .int)) (zRm 6 0 0) (va_Pc [.ref o, .int w] (zPreO B0 D [cOb o ad (sa 0) (sb 0) tr x, [(ad 0, .inl (D.1 105, 8, .inr (.inr (.inr (.inr (rF sh 8))))))], thP D sa ((da, n, ra), (md, wn, od), c), slP D sh rw 8, T])) (zQo (S := Unit) (fun _ => True) (fun _ => some (.int (mCount n xm sz c w)))) 0 0 (fun _ => False) := by
  refine z_entryo (by decide +kernel) (Nat.le_of_ble_eq_true rfl) (fun pX eX sX mX argsX blX mtX cX QX hQX gX => ?_)
  refine z_eq (lv₂ := [(0, .ref o), (1, .int w)]) (st₂ := []) ?_ rfl rfl
  rcases hS with ⟨rfl, rfl, h16, h17⟩ | ⟨⟨d, rfl⟩, hG⟩
  · skip
    refine z_wso [cOb o ad (sa 0) (sb 0) tr x, [(ad 0, .inl (D.1 105, 8, .inr (.inr (.inr (.inr (rF sh 8))))))], [(sa 0, .inr (2, [.int (c 16), .int (c 1), .int (c 0), .int wn, .ref (sa 1), .ref (sa 2), .ref (sa 3), .ref (sa 4)]))], [(sa 1, .inr (16, [.int md, .ref (zEE D), .int (nI 0)]))], [(sa 2, .inl (D.1 100, 7, .inl (fun i_ => c (9 + i_))))], [(sa 3, .inl (D.1 100, 7, .inl (fun i_ => c (2 + i_))))], [(sa 4, .inl (D.1 100, 7, .inl od))], slP D sh rw 8, T] (fun _ h => h) ?_
    refine z_iconst (pc := 0) gX 0 dX0_count_0 (by decide) ?_
    refine z_istore_n (pc := 1) gX [1, 2, 0] [(0, .ref o), (1, .int w), (2, .int 0)] dX0_count_1 rfl (by decide) rfl ?_
    refine z_iload_n (pc := 2) gX 1 dX0_count_2 rfl rfl ?_
    by_cases c3_0 : w = 0
    · refine z_tableIn (pc := 3) gX 56 dX0_count_3 (by rw [c3_0]; decide) (by rw [c3_0]; decide) (by rw [c3_0]; rfl) (by decide) ?_
      refine z_iconst (pc := 56) gX 0 dX0_count_56 (by decide) ?_
      refine z_istore_n (pc := 57) gX [1, 2, 3, 0] [(0, .ref o), (1, .int w), (2, .int 0), (3, .int 0)] dX0_count_57 rfl (by decide) rfl ?_
      have L58 : ∀ (n58 : Nat) (k : Nat) (m : Nat), (k ≤ 8) → (m = cntB (fun k => !decide (sz k < 0)) k) → 8 - k < n58 → zJ pX l eX (zRm 6 0 0) sX mX argsX blX mtX cX QX 4 (zIo D sX [cOb o ad (sa 0) (sb 0) tr x, [(ad 0, .inl (D.1 105, 8, .inr (.inr (.inr (.inr (rF sh 8))))))], [(sa 0, .inr (2, [.int (c 16), .int (c 1), .int (c 0), .int wn, .ref (sa 1), .ref (sa 2), .ref (sa 3), .ref (sa 4)]))], [(sa 1, .inr (16, [.int md, .ref (zEE D), .int (nI 0)]))], [(sa 2, .inl (D.1 100, 7, .inl (fun i_ => c (9 + i_))))], [(sa 3, .inl (D.1 100, 7, .inl (fun i_ => c (2 + i_))))], [(sa 4, .inl (D.1 100, 7, .inl od))], slP D sh rw 8, T]) 0 0 58 [(0, .ref o), (1, .int w), (2, .int (nI m)), (3, .int (nI k))] [] := by
        intro n58
        induction n58 with
        | zero => exact fun k m hk hm hm58 => absurd hm58 (Nat.not_lt_zero _)
        | succ n58 ih58 =>
          intro k m hk hm hm58
          refine z_iload_n (pc := 58) gX 3 dX0_count_58 rfl rfl ?_
          refine z_bipush (pc := 59) gX 8 dX0_count_59 (by decide) ?_
          refine z_icmp_ge (pc := 61) gX 90 dX0_count_61 (by decide) (fun c61 => ?_) (fun c61 => ?_)
          · skip
            have k61 : 8 ≤ k := (zn_le (a := 8) (b := k) (by omega) (by omega)).mp c61
            refine z_iload_n (pc := 90) gX 2 dX0_count_90 rfl rfl ?_
            exact z_rio gX hQX (by rw [hm, show k = 8 by omega]; simp [mCount, c3_0]) dX0_count_91
          · skip
            have k61 : k < 8 := (zn_nle (a := 8) (b := k) (by omega) (by omega)).mp c61
            refine z_iload_n (pc := 64) gX 2 dX0_count_64 rfl rfl ?_
            refine z_aload_n (pc := 65) gX 0 dX0_count_65 rfl rfl ?_
            refine z_get (pc := 66) gX (zIo_ok gX) (zm 0 rfl) (ci := 0) (C := RX0) (T := TX0) (N := 14) rfl in_X0 0 (by decide) q207 (fun _ h => h) (v := .ref (ad 0)) rfl dX0_count_66 ?_
            refine z_iload_n (pc := 69) gX 3 dX0_count_69 rfl rfl ?_
            refine z_ald (pc := 70) gX (zIo_ok gX) (j := k) (n := 8) (f := (rF sh 8)) (zm 1 rfl) 5 rfl (by omega) (by decide) (sh k) (rF_lt (by omega)) dX0_count_70 ?_
            rcases hrr : rw k with _ | ⟨a9, r9⟩
            · skip
              have hsz := hW.none (by omega) hrr
              refine z_getN (pc := 71) gX (zIo_ok gX) (zpm 7 rfl (sl_memN (by omega) hrr)) (ci := 1) (C := RX1) (T := TX1) (N := 1) rfl in_X1 0 (by decide) (zm 1 rfl) (fun _ h => h) (v := .null) rfl dX0_count_71 ?_
              refine z_ifnonnullN (pc := 74) gX dX0_count_74 ?_
              refine z_iconst (pc := 77) gX 0 dX0_count_77 (by decide) ?_
              refine z_goto (pc := 78) gX 82 dX0_count_78 (by decide) ?_
              refine z_iadd (pc := 82) gX dX0_count_82 ?_
              refine z_top (nI m) (nI_add m 0) ?_
              refine z_istore_n (pc := 83) gX [1, 2, 0, 3] [(0, .ref o), (1, .int w), (2, .int (nI m)), (3, .int (nI k))] dX0_count_83 rfl (by decide) rfl ?_
              refine z_iinc (pc := 84) gX 3 (nI (k + 1)) [1, 2, 3, 0] [(0, .ref o), (1, .int w), (2, .int (nI m)), (3, .int (nI (k + 1)))] dX0_count_84 rfl (nI_1 _) (by decide) rfl ?_
              refine z_goto (pc := 87) gX 58 dX0_count_87 (by decide) ?_
              exact ih58 (k + 1) m (by omega) (by simp only [cntB]; rw [← hm]; simp [hsz]) (by omega)
            · skip
              obtain ⟨w9, n9, f9⟩ := r9
              obtain ⟨-, hn9, hsz, -⟩ := hW.some (by omega) hrr
              refine z_getN (pc := 71) gX (zIo_ok gX) (zpm 7 rfl (sl_memS (by omega) hrr)) (ci := 1) (C := RX1) (T := TX1) (N := 1) rfl in_X1 0 (by decide) (zm 1 rfl) (fun _ h => h) (v := .ref a9) rfl dX0_count_71 ?_
              refine z_ifnonnull (pc := 74) gX 81 dX0_count_74 (by decide) ?_
              refine z_iconst (pc := 81) gX 1 dX0_count_81 (by decide) ?_
              refine z_iadd (pc := 82) gX dX0_count_82 ?_
              refine z_top (nI (m + 1)) (nI_add m 1) ?_
              refine z_istore_n (pc := 83) gX [1, 2, 0, 3] [(0, .ref o), (1, .int w), (2, .int (nI (m + 1))), (3, .int (nI k))] dX0_count_83 rfl (by decide) rfl ?_
              refine z_iinc (pc := 84) gX 3 (nI (k + 1)) [1, 2, 3, 0] [(0, .ref o), (1, .int w), (2, .int (nI (m + 1))), (3, .int (nI (k + 1)))] dX0_count_84 rfl (nI_1 _) (by decide) rfl ?_
              refine z_goto (pc := 87) gX 58 dX0_count_87 (by decide) ?_
              exact ih58 (k + 1) (m + 1) (by omega) (by simp only [cntB]; rw [← hm]; have e : decide (sz k < 0) = false := (by rw [hsz]; exact decide_eq_false (nI_pos (by omega))); simp [e]) (by omega)
      exact L58 ((8 - 0) + 1) 0 0 (by omega) rfl (Nat.lt_succ_self _)
    by_cases c3_1 : w = 1
    · refine z_tableIn (pc := 3) gX 92 dX0_count_3 (by rw [c3_1]; decide) (by rw [c3_1]; decide) (by rw [c3_1]; rfl) (by decide) ?_
      refine z_aload_n (pc := 92) gX 0 dX0_count_92 rfl rfl ?_
      refine z_get (pc := 93) gX (zIo_ok gX) (zm 0 rfl) (ci := 0) (C := RX0) (T := TX0) (N := 14) rfl in_X0 4 (by decide) q213 (fun _ h => h) (v := .ref (sa 0)) rfl dX0_count_93 ?_
      refine z_cOV (pc := 96) gX (zIo_ok gX) [] [] [2, 3] (met_X2_many l D B0 sa (c 16) (c 1) (c 0) wn md (zEE D) 0 ) q820 q653 q654 q49 q655 (zm 2 rfl) (ci := 2) rfl rfl hd_X2_many ⟨rfl, rfl⟩ ⟨(Nat.le_of_ble_eq_true rfl), (Nat.le_of_ble_eq_true rfl)⟩ rfl rfl rfl (Nat.le_of_ble_eq_true rfl) ⟨(Nat.le_of_ble_eq_true rfl), (Nat.le_of_ble_eq_true rfl)⟩ dX0_count_96 ?_
      intro _ hu96
      refine z_eq (lv₂ := [(0, .ref o), (1, .int w), (2, .int 0)]) (st₂ := [.int (nI 0)]) ?_ rfl rfl
      exact z_rio gX hQX (by rw [show mCount 0 xm sz c w = c 17 by simp [mCount, c3_0, c3_1]]; exact h17.symm) dX0_count_99
    by_cases c3_2 : w = 2
    · refine z_tableIn (pc := 3) gX 100 dX0_count_3 (by rw [c3_2]; decide) (by rw [c3_2]; decide) (by rw [c3_2]; rfl) (by decide) ?_
      refine z_aload_n (pc := 100) gX 0 dX0_count_100 rfl rfl ?_
      refine z_get (pc := 101) gX (zIo_ok gX) (zm 0 rfl) (ci := 0) (C := RX0) (T := TX0) (N := 14) rfl in_X0 4 (by decide) q213 (fun _ h => h) (v := .ref (sa 0)) rfl dX0_count_101 ?_
      refine z_get (pc := 104) gX (zIo_ok gX) (zm 2 rfl) (ci := 2) (C := RX2) (T := TX2) (N := 8) rfl in_X2 0 (by decide) q147 (fun _ h => h) (v := .int (c 16)) rfl dX0_count_104 ?_
      exact z_rio gX hQX (by rw [show mCount 0 xm sz c w = c 16 by simp [mCount, c3_0, c3_1, c3_2]]) dX0_count_107
    by_cases c3_3 : w = 3
    · refine z_tableIn (pc := 3) gX 108 dX0_count_3 (by rw [c3_3]; decide) (by rw [c3_3]; decide) (by rw [c3_3]; rfl) (by decide) ?_
      refine z_aload_n (pc := 108) gX 0 dX0_count_108 rfl rfl ?_
      refine z_get (pc := 109) gX (zIo_ok gX) (zm 0 rfl) (ci := 0) (C := RX0) (T := TX0) (N := 14) rfl in_X0 4 (by decide) q213 (fun _ h => h) (v := .ref (sa 0)) rfl dX0_count_109 ?_
      refine z_get (pc := 112) gX (zIo_ok gX) (zm 2 rfl) (ci := 2) (C := RX2) (T := TX2) (N := 8) rfl in_X2 2 (by decide) q154 (fun _ h => h) (v := .int (c 0)) rfl dX0_count_112 ?_
      exact z_rio gX hQX (by rw [show mCount 0 xm sz c w = c 0 by simp [mCount, c3_0, c3_1, c3_2, c3_3]]) dX0_count_115
    by_cases c3_4 : w = 4
    · refine z_tableIn (pc := 3) gX 116 dX0_count_3 (by rw [c3_4]; decide) (by rw [c3_4]; decide) (by rw [c3_4]; rfl) (by decide) ?_
      refine z_aload_n (pc := 116) gX 0 dX0_count_116 rfl rfl ?_
      refine z_get (pc := 117) gX (zIo_ok gX) (zm 0 rfl) (ci := 0) (C := RX0) (T := TX0) (N := 14) rfl in_X0 4 (by decide) q213 (fun _ h => h) (v := .ref (sa 0)) rfl dX0_count_117 ?_
      refine z_get (pc := 120) gX (zIo_ok gX) (zm 2 rfl) (ci := 2) (C := RX2) (T := TX2) (N := 8) rfl in_X2 1 (by decide) q151 (fun _ h => h) (v := .int (c 1)) rfl dX0_count_120 ?_
      exact z_rio gX hQX (by rw [show mCount 0 xm sz c w = c 1 by simp [mCount, c3_0, c3_1, c3_2, c3_3, c3_4]]) dX0_count_123
    by_cases c3_5 : w = 5
    · refine z_tableIn (pc := 3) gX 124 dX0_count_3 (by rw [c3_5]; decide) (by rw [c3_5]; decide) (by rw [c3_5]; rfl) (by decide) ?_
      refine z_aload_n (pc := 124) gX 0 dX0_count_124 rfl rfl ?_
      refine z_get (pc := 125) gX (zIo_ok gX) (zm 0 rfl) (ci := 0) (C := RX0) (T := TX0) (N := 14) rfl in_X0 4 (by decide) q213 (fun _ h => h) (v := .ref (sa 0)) rfl dX0_count_125 ?_
      refine z_iconst (pc := 128) gX (-1) dX0_count_128 (by decide) ?_
      refine z_cOV (pc := 129) gX (zIo_ok gX) [.int (-1)] [] [2, 3, 5] (met_X2_those l D B0 sa (c 16) (c 1) (c 0) wn md (zEE D) 0 (fun i_ => c (2 + i_)) (-1) (by omega)) q1017 q930 q931 q49 q932 (zm 2 rfl) (ci := 2) rfl rfl hd_X2_those ⟨rfl, rfl⟩ ⟨(Nat.le_of_ble_eq_true rfl), (Nat.le_of_ble_eq_true rfl)⟩ rfl rfl rfl (Nat.le_of_ble_eq_true rfl) ⟨(Nat.le_of_ble_eq_true rfl), (Nat.le_of_ble_eq_true rfl)⟩ dX0_count_129 ?_
      intro _ hu129
      refine z_eq (lv₂ := [(0, .ref o), (1, .int w), (2, .int 0)]) (st₂ := [.int (nI (tN (fun i_ => c (2 + i_)) (-1) 0))]) ?_ rfl rfl
      refine z_top (nI (qN c 0)) (by rw [tN_q]) ?_
      refine z_cOS (pc := 132) gX (zIo_ok gX) [.int (nI (qN c 0))] [] [] (met_J20_bitCount l D B0 (qN c 0) (by have := qN_lt c 0; have := pow7 (show 0 ≤ 7 by omega); omega)) q1372 q934 q81 q935 hd_J20_bitCount ⟨rfl, rfl⟩ ⟨(Nat.le_of_ble_eq_true rfl), (Nat.le_of_ble_eq_true rfl)⟩ rfl rfl rfl (Nat.le_of_ble_eq_true rfl) ⟨(Nat.le_of_ble_eq_true rfl), (Nat.le_of_ble_eq_true rfl)⟩ dX0_count_132 ?_
      intro _ hu132
      refine z_eq (lv₂ := [(0, .ref o), (1, .int w), (2, .int 0)]) (st₂ := [.int (nI (popc (qN c 0)))]) ?_ rfl rfl
      refine z_top (nI (cntV c (-1) 0)) (by rw [popc_q (show 0 ≤ 7 by omega)]) ?_
      exact z_rio gX hQX (by rw [show mCount 0 xm sz c w = nI (cntB (fun r => decide (c (2 + r) = -1)) 0) by simp [mCount, c3_0, c3_1, c3_2, c3_3, c3_4, c3_5]]; rw [cntB_V]) dX0_count_135
    by_cases c3_6 : w = 6
    · refine z_tableIn (pc := 3) gX 136 dX0_count_3 (by rw [c3_6]; decide) (by rw [c3_6]; decide) (by rw [c3_6]; rfl) (by decide) ?_
      refine z_aload_n (pc := 136) gX 0 dX0_count_136 rfl rfl ?_
      refine z_get (pc := 137) gX (zIo_ok gX) (zm 0 rfl) (ci := 0) (C := RX0) (T := TX0) (N := 14) rfl in_X0 4 (by decide) q213 (fun _ h => h) (v := .ref (sa 0)) rfl dX0_count_137 ?_
      refine z_cOV (pc := 140) gX (zIo_ok gX) [] [] [2, 3] (met_X2_many l D B0 sa (c 16) (c 1) (c 0) wn md (zEE D) 0 ) q820 q653 q654 q49 q655 (zm 2 rfl) (ci := 2) rfl rfl hd_X2_many ⟨rfl, rfl⟩ ⟨(Nat.le_of_ble_eq_true rfl), (Nat.le_of_ble_eq_true rfl)⟩ rfl rfl rfl (Nat.le_of_ble_eq_true rfl) ⟨(Nat.le_of_ble_eq_true rfl), (Nat.le_of_ble_eq_true rfl)⟩ dX0_count_140 ?_
      intro _ hu140
      refine z_eq (lv₂ := [(0, .ref o), (1, .int w), (2, .int 0)]) (st₂ := [.int (nI 0)]) ?_ rfl rfl
      refine z_aload_n (pc := 143) gX 0 dX0_count_143 rfl rfl ?_
      refine z_get (pc := 144) gX (zIo_ok gX) (zm 0 rfl) (ci := 0) (C := RX0) (T := TX0) (N := 14) rfl in_X0 4 (by decide) q213 (fun _ h => h) (v := .ref (sa 0)) rfl dX0_count_144 ?_
      refine z_iconst (pc := 147) gX (-1) dX0_count_147 (by decide) ?_
      refine z_cOV (pc := 148) gX (zIo_ok gX) [.int (-1)] [.int (nI 0)] [2, 3, 5] (met_X2_those l D B0 sa (c 16) (c 1) (c 0) wn md (zEE D) 0 (fun i_ => c (2 + i_)) (-1) (by omega)) q1017 q930 q931 q49 q932 (zm 2 rfl) (ci := 2) rfl rfl hd_X2_those ⟨rfl, rfl⟩ ⟨(Nat.le_of_ble_eq_true rfl), (Nat.le_of_ble_eq_true rfl)⟩ rfl rfl rfl (Nat.le_of_ble_eq_true rfl) ⟨(Nat.le_of_ble_eq_true rfl), (Nat.le_of_ble_eq_true rfl)⟩ dX0_count_148 ?_
      intro _ hu148
      refine z_eq (lv₂ := [(0, .ref o), (1, .int w), (2, .int 0)]) (st₂ := [.int (nI (tN (fun i_ => c (2 + i_)) (-1) 0)), .int (nI 0)]) ?_ rfl rfl
      refine z_top (nI (qN c 0)) (by rw [tN_q]) ?_
      refine z_cOS (pc := 151) gX (zIo_ok gX) [.int (nI (qN c 0))] [.int (nI 0)] [] (met_J20_bitCount l D B0 (qN c 0) (by have := qN_lt c 0; have := pow7 (show 0 ≤ 7 by omega); omega)) q1372 q934 q81 q935 hd_J20_bitCount ⟨rfl, rfl⟩ ⟨(Nat.le_of_ble_eq_true rfl), (Nat.le_of_ble_eq_true rfl)⟩ rfl rfl rfl (Nat.le_of_ble_eq_true rfl) ⟨(Nat.le_of_ble_eq_true rfl), (Nat.le_of_ble_eq_true rfl)⟩ dX0_count_151 ?_
      intro _ hu151
      refine z_eq (lv₂ := [(0, .ref o), (1, .int w), (2, .int 0)]) (st₂ := [.int (nI (popc (qN c 0))), .int (nI 0)]) ?_ rfl rfl
      refine z_top (nI (cntV c (-1) 0)) (by rw [popc_q (show 0 ≤ 7 by omega)]) ?_
      refine z_isub (pc := 154) gX dX0_count_154 ?_
      refine z_aload_n (pc := 155) gX 0 dX0_count_155 rfl rfl ?_
      refine z_get (pc := 156) gX (zIo_ok gX) (zm 0 rfl) (ci := 0) (C := RX0) (T := TX0) (N := 14) rfl in_X0 4 (by decide) q213 (fun _ h => h) (v := .ref (sa 0)) rfl dX0_count_156 ?_
      refine z_cOV (pc := 159) gX (zIo_ok gX) [] [.int ((nI 0) - (nI (cntV c (-1) 0)))] [2, 3, 5] (met_X2_offs l D B0 sa (c 16) (c 1) (c 0) wn md (zEE D) 0 (fun i_ => c (2 + i_)) (by omega)) q925 q926 q927 q49 q928 (zm 2 rfl) (ci := 2) rfl rfl hd_X2_offs ⟨rfl, rfl⟩ ⟨(Nat.le_of_ble_eq_true rfl), (Nat.le_of_ble_eq_true rfl)⟩ rfl rfl rfl (Nat.le_of_ble_eq_true rfl) ⟨(Nat.le_of_ble_eq_true rfl), (Nat.le_of_ble_eq_true rfl)⟩ dX0_count_159 ?_
      intro _ hu159
      refine z_eq (lv₂ := [(0, .ref o), (1, .int w), (2, .int 0)]) (st₂ := [.int (nI (cW (fun i_ => c (2 + i_)) 99 0)), .int ((nI 0) - (nI (cntV c (-1) 0)))]) ?_ rfl rfl
      refine z_top (nI (cntV c 99 0)) (by rw [cW_c]) ?_
      refine z_isub (pc := 162) gX dX0_count_162 ?_
      exact z_rio gX hQX (by rw [show mCount 0 xm sz c w = nI (cntB (fun r => mOn (c (2 + r))) 0) by simp [mCount, c3_0, c3_1, c3_2, c3_3, c3_4, c3_5, c3_6]]; exact on_eq) dX0_count_163
    by_cases c3_7 : w = 7
    · refine z_tableIn (pc := 3) gX 164 dX0_count_3 (by rw [c3_7]; decide) (by rw [c3_7]; decide) (by rw [c3_7]; rfl) (by decide) ?_
      refine z_aload_n (pc := 164) gX 0 dX0_count_164 rfl rfl ?_
      refine z_get (pc := 165) gX (zIo_ok gX) (zm 0 rfl) (ci := 0) (C := RX0) (T := TX0) (N := 14) rfl in_X0 4 (by decide) q213 (fun _ h => h) (v := .ref (sa 0)) rfl dX0_count_165 ?_
      refine z_cOV (pc := 168) gX (zIo_ok gX) [] [] [2, 3, 5] (met_X2_offs l D B0 sa (c 16) (c 1) (c 0) wn md (zEE D) 0 (fun i_ => c (2 + i_)) (by omega)) q925 q926 q927 q49 q928 (zm 2 rfl) (ci := 2) rfl rfl hd_X2_offs ⟨rfl, rfl⟩ ⟨(Nat.le_of_ble_eq_true rfl), (Nat.le_of_ble_eq_true rfl)⟩ rfl rfl rfl (Nat.le_of_ble_eq_true rfl) ⟨(Nat.le_of_ble_eq_true rfl), (Nat.le_of_ble_eq_true rfl)⟩ dX0_count_168 ?_
      intro _ hu168
      refine z_eq (lv₂ := [(0, .ref o), (1, .int w), (2, .int 0)]) (st₂ := [.int (nI (cW (fun i_ => c (2 + i_)) 99 0))]) ?_ rfl rfl
      refine z_top (nI (cntV c 99 0)) (by rw [cW_c]) ?_
      exact z_rio gX hQX (by rw [show mCount 0 xm sz c w = nI (cntV c 99 0) by simp [mCount, c3_0, c3_1, c3_2, c3_3, c3_4, c3_5, c3_6, c3_7]]) dX0_count_171
    by_cases c3_8 : w = 8
    · refine z_tableIn (pc := 3) gX 172 dX0_count_3 (by rw [c3_8]; decide) (by rw [c3_8]; decide) (by rw [c3_8]; rfl) (by decide) ?_
      refine z_aload_n (pc := 172) gX 0 dX0_count_172 rfl rfl ?_
      refine z_get (pc := 173) gX (zIo_ok gX) (zm 0 rfl) (ci := 0) (C := RX0) (T := TX0) (N := 14) rfl in_X0 7 (by decide) q216 (fun _ h => h) (v := .int (x 2)) rfl dX0_count_173 ?_
      exact z_rio gX hQX (by rw [show mCount 0 xm sz c w = xm 3 by simp [mCount, c3_0, c3_1, c3_2, c3_3, c3_4, c3_5, c3_6, c3_7, c3_8]]; exact hx2) dX0_count_176
    by_cases c3_9 : w = 9
    · refine z_tableIn (pc := 3) gX 177 dX0_count_3 (by rw [c3_9]; decide) (by rw [c3_9]; decide) (by rw [c3_9]; rfl) (by decide) ?_
      refine z_aload_n (pc := 177) gX 0 dX0_count_177 rfl rfl ?_
      refine z_get (pc := 178) gX (zIo_ok gX) (zm 0 rfl) (ci := 0) (C := RX0) (T := TX0) (N := 14) rfl in_X0 2 (by decide) q209 (fun _ h => h) (v := .int (x 0)) rfl dX0_count_178 ?_
      exact z_rio gX hQX (by rw [show mCount 0 xm sz c w = xm 1 by simp [mCount, c3_0, c3_1, c3_2, c3_3, c3_4, c3_5, c3_6, c3_7, c3_8, c3_9]]; exact hx0) dX0_count_181
    have t3_0 : ¬ w.toInt = 0 := lv_neT c3_0 (by decide)
    have t3_1 : ¬ w.toInt = 1 := lv_neT c3_1 (by decide)
    have t3_2 : ¬ w.toInt = 2 := lv_neT c3_2 (by decide)
    have t3_3 : ¬ w.toInt = 3 := lv_neT c3_3 (by decide)
    have t3_4 : ¬ w.toInt = 4 := lv_neT c3_4 (by decide)
    have t3_5 : ¬ w.toInt = 5 := lv_neT c3_5 (by decide)
    have t3_6 : ¬ w.toInt = 6 := lv_neT c3_6 (by decide)
    have t3_7 : ¬ w.toInt = 7 := lv_neT c3_7 (by decide)
    have t3_8 : ¬ w.toInt = 8 := lv_neT c3_8 (by decide)
    have t3_9 : ¬ w.toInt = 9 := lv_neT c3_9 (by decide)
    refine z_tableOut (pc := 3) gX 182 dX0_count_3 (by omega) (by decide) ?_
    refine z_ldc (pc := 182) gX q350 dX0_count_182 ?_
    exact z_rio gX hQX (by simp [mCount, c3_0, c3_1, c3_2, c3_3, c3_4, c3_5, c3_6, c3_7, c3_8, c3_9]) dX0_count_184
  · skip
    have hK := hG.k
    have hn1 := hG.1
    have hn7 := hG.2.1
    have h17 := hG.2.2.1
    have h16 := hG.2.2.2.1
    have hk4 := hG.2.2.2.2.1
    have hk12 := hG.2.2.2.2.2.1
    have hln := hG.2.2.2.2.2.2.1
    have hR := hG.2.2.2.2.2.2.2
    refine z_wso [cOb o ad (sa 0) (sb 0) tr x, [(ad 0, .inl (D.1 105, 8, .inr (.inr (.inr (.inr (rF sh 8))))))], [(sa 0, .inr (2, [.int (c 16), .int (c 1), .int (c 0), .int wn, .ref (sa 1), .ref (sa 2), .ref (sa 3), .ref (sa 4)]))], [(sa 1, .inr (16, [.int md, .ref d, .int (nI n)]))], [(sa 2, .inl (D.1 100, 7, .inl (fun i_ => c (9 + i_))))], [(sa 3, .inl (D.1 100, 7, .inl (fun i_ => c (2 + i_))))], [(sa 4, .inl (D.1 100, 7, .inl od))], [(d, .inl (D.1 104, 10, .inr (.inr (.inr (.inr (rF ra n))))))], slP D sh rw 8, T] (fun _ h => h) ?_
    refine z_iconst (pc := 0) gX 0 dX0_count_0 (by decide) ?_
    refine z_istore_n (pc := 1) gX [1, 2, 0] [(0, .ref o), (1, .int w), (2, .int 0)] dX0_count_1 rfl (by decide) rfl ?_
    refine z_iload_n (pc := 2) gX 1 dX0_count_2 rfl rfl ?_
    by_cases c3_0 : w = 0
    · refine z_tableIn (pc := 3) gX 56 dX0_count_3 (by rw [c3_0]; decide) (by rw [c3_0]; decide) (by rw [c3_0]; rfl) (by decide) ?_
      refine z_iconst (pc := 56) gX 0 dX0_count_56 (by decide) ?_
      refine z_istore_n (pc := 57) gX [1, 2, 3, 0] [(0, .ref o), (1, .int w), (2, .int 0), (3, .int 0)] dX0_count_57 rfl (by decide) rfl ?_
      have L58 : ∀ (n58 : Nat) (k : Nat) (m : Nat), (k ≤ 8) → (m = cntB (fun k => !decide (sz k < 0)) k) → 8 - k < n58 → zJ pX l eX (zRm 6 0 0) sX mX argsX blX mtX cX QX 4 (zIo D sX [cOb o ad (sa 0) (sb 0) tr x, [(ad 0, .inl (D.1 105, 8, .inr (.inr (.inr (.inr (rF sh 8))))))], [(sa 0, .inr (2, [.int (c 16), .int (c 1), .int (c 0), .int wn, .ref (sa 1), .ref (sa 2), .ref (sa 3), .ref (sa 4)]))], [(sa 1, .inr (16, [.int md, .ref d, .int (nI n)]))], [(sa 2, .inl (D.1 100, 7, .inl (fun i_ => c (9 + i_))))], [(sa 3, .inl (D.1 100, 7, .inl (fun i_ => c (2 + i_))))], [(sa 4, .inl (D.1 100, 7, .inl od))], [(d, .inl (D.1 104, 10, .inr (.inr (.inr (.inr (rF ra n))))))], slP D sh rw 8, T]) 0 0 58 [(0, .ref o), (1, .int w), (2, .int (nI m)), (3, .int (nI k))] [] := by
        intro n58
        induction n58 with
        | zero => exact fun k m hk hm hm58 => absurd hm58 (Nat.not_lt_zero _)
        | succ n58 ih58 =>
          intro k m hk hm hm58
          refine z_iload_n (pc := 58) gX 3 dX0_count_58 rfl rfl ?_
          refine z_bipush (pc := 59) gX 8 dX0_count_59 (by decide) ?_
          refine z_icmp_ge (pc := 61) gX 90 dX0_count_61 (by decide) (fun c61 => ?_) (fun c61 => ?_)
          · skip
            have k61 : 8 ≤ k := (zn_le (a := 8) (b := k) (by omega) (by omega)).mp c61
            refine z_iload_n (pc := 90) gX 2 dX0_count_90 rfl rfl ?_
            exact z_rio gX hQX (by rw [hm, show k = 8 by omega]; simp [mCount, c3_0]) dX0_count_91
          · skip
            have k61 : k < 8 := (zn_nle (a := 8) (b := k) (by omega) (by omega)).mp c61
            refine z_iload_n (pc := 64) gX 2 dX0_count_64 rfl rfl ?_
            refine z_aload_n (pc := 65) gX 0 dX0_count_65 rfl rfl ?_
            refine z_get (pc := 66) gX (zIo_ok gX) (zm 0 rfl) (ci := 0) (C := RX0) (T := TX0) (N := 14) rfl in_X0 0 (by decide) q207 (fun _ h => h) (v := .ref (ad 0)) rfl dX0_count_66 ?_
            refine z_iload_n (pc := 69) gX 3 dX0_count_69 rfl rfl ?_
            refine z_ald (pc := 70) gX (zIo_ok gX) (j := k) (n := 8) (f := (rF sh 8)) (zm 1 rfl) 5 rfl (by omega) (by decide) (sh k) (rF_lt (by omega)) dX0_count_70 ?_
            rcases hrr : rw k with _ | ⟨a9, r9⟩
            · skip
              have hsz := hW.none (by omega) hrr
              refine z_getN (pc := 71) gX (zIo_ok gX) (zpm 8 rfl (sl_memN (by omega) hrr)) (ci := 1) (C := RX1) (T := TX1) (N := 1) rfl in_X1 0 (by decide) (zm 1 rfl) (fun _ h => h) (v := .null) rfl dX0_count_71 ?_
              refine z_ifnonnullN (pc := 74) gX dX0_count_74 ?_
              refine z_iconst (pc := 77) gX 0 dX0_count_77 (by decide) ?_
              refine z_goto (pc := 78) gX 82 dX0_count_78 (by decide) ?_
              refine z_iadd (pc := 82) gX dX0_count_82 ?_
              refine z_top (nI m) (nI_add m 0) ?_
              refine z_istore_n (pc := 83) gX [1, 2, 0, 3] [(0, .ref o), (1, .int w), (2, .int (nI m)), (3, .int (nI k))] dX0_count_83 rfl (by decide) rfl ?_
              refine z_iinc (pc := 84) gX 3 (nI (k + 1)) [1, 2, 3, 0] [(0, .ref o), (1, .int w), (2, .int (nI m)), (3, .int (nI (k + 1)))] dX0_count_84 rfl (nI_1 _) (by decide) rfl ?_
              refine z_goto (pc := 87) gX 58 dX0_count_87 (by decide) ?_
              exact ih58 (k + 1) m (by omega) (by simp only [cntB]; rw [← hm]; simp [hsz]) (by omega)
            · skip
              obtain ⟨w9, n9, f9⟩ := r9
              obtain ⟨-, hn9, hsz, -⟩ := hW.some (by omega) hrr
              refine z_getN (pc := 71) gX (zIo_ok gX) (zpm 8 rfl (sl_memS (by omega) hrr)) (ci := 1) (C := RX1) (T := TX1) (N := 1) rfl in_X1 0 (by decide) (zm 1 rfl) (fun _ h => h) (v := .ref a9) rfl dX0_count_71 ?_
              refine z_ifnonnull (pc := 74) gX 81 dX0_count_74 (by decide) ?_
              refine z_iconst (pc := 81) gX 1 dX0_count_81 (by decide) ?_
              refine z_iadd (pc := 82) gX dX0_count_82 ?_
              refine z_top (nI (m + 1)) (nI_add m 1) ?_
              refine z_istore_n (pc := 83) gX [1, 2, 0, 3] [(0, .ref o), (1, .int w), (2, .int (nI (m + 1))), (3, .int (nI k))] dX0_count_83 rfl (by decide) rfl ?_
              refine z_iinc (pc := 84) gX 3 (nI (k + 1)) [1, 2, 3, 0] [(0, .ref o), (1, .int w), (2, .int (nI (m + 1))), (3, .int (nI (k + 1)))] dX0_count_84 rfl (nI_1 _) (by decide) rfl ?_
              refine z_goto (pc := 87) gX 58 dX0_count_87 (by decide) ?_
              exact ih58 (k + 1) (m + 1) (by omega) (by simp only [cntB]; rw [← hm]; have e : decide (sz k < 0) = false := (by rw [hsz]; exact decide_eq_false (nI_pos (by omega))); simp [e]) (by omega)
      exact L58 ((8 - 0) + 1) 0 0 (by omega) rfl (Nat.lt_succ_self _)
    by_cases c3_1 : w = 1
    · refine z_tableIn (pc := 3) gX 92 dX0_count_3 (by rw [c3_1]; decide) (by rw [c3_1]; decide) (by rw [c3_1]; rfl) (by decide) ?_
      refine z_aload_n (pc := 92) gX 0 dX0_count_92 rfl rfl ?_
      refine z_get (pc := 93) gX (zIo_ok gX) (zm 0 rfl) (ci := 0) (C := RX0) (T := TX0) (N := 14) rfl in_X0 4 (by decide) q213 (fun _ h => h) (v := .ref (sa 0)) rfl dX0_count_93 ?_
      refine z_cOV (pc := 96) gX (zIo_ok gX) [] [] [2, 3] (met_X2_many l D B0 sa (c 16) (c 1) (c 0) wn md d n ) q820 q653 q654 q49 q655 (zm 2 rfl) (ci := 2) rfl rfl hd_X2_many ⟨rfl, rfl⟩ ⟨(Nat.le_of_ble_eq_true rfl), (Nat.le_of_ble_eq_true rfl)⟩ rfl rfl rfl (Nat.le_of_ble_eq_true rfl) ⟨(Nat.le_of_ble_eq_true rfl), (Nat.le_of_ble_eq_true rfl)⟩ dX0_count_96 ?_
      intro _ hu96
      refine z_eq (lv₂ := [(0, .ref o), (1, .int w), (2, .int 0)]) (st₂ := [.int (nI n)]) ?_ rfl rfl
      exact z_rio gX hQX (by rw [show mCount n xm sz c w = c 17 by simp [mCount, c3_0, c3_1]]; exact h17.symm) dX0_count_99
    by_cases c3_2 : w = 2
    · refine z_tableIn (pc := 3) gX 100 dX0_count_3 (by rw [c3_2]; decide) (by rw [c3_2]; decide) (by rw [c3_2]; rfl) (by decide) ?_
      refine z_aload_n (pc := 100) gX 0 dX0_count_100 rfl rfl ?_
      refine z_get (pc := 101) gX (zIo_ok gX) (zm 0 rfl) (ci := 0) (C := RX0) (T := TX0) (N := 14) rfl in_X0 4 (by decide) q213 (fun _ h => h) (v := .ref (sa 0)) rfl dX0_count_101 ?_
      refine z_get (pc := 104) gX (zIo_ok gX) (zm 2 rfl) (ci := 2) (C := RX2) (T := TX2) (N := 8) rfl in_X2 0 (by decide) q147 (fun _ h => h) (v := .int (c 16)) rfl dX0_count_104 ?_
      exact z_rio gX hQX (by rw [show mCount n xm sz c w = c 16 by simp [mCount, c3_0, c3_1, c3_2]]) dX0_count_107
    by_cases c3_3 : w = 3
    · refine z_tableIn (pc := 3) gX 108 dX0_count_3 (by rw [c3_3]; decide) (by rw [c3_3]; decide) (by rw [c3_3]; rfl) (by decide) ?_
      refine z_aload_n (pc := 108) gX 0 dX0_count_108 rfl rfl ?_
      refine z_get (pc := 109) gX (zIo_ok gX) (zm 0 rfl) (ci := 0) (C := RX0) (T := TX0) (N := 14) rfl in_X0 4 (by decide) q213 (fun _ h => h) (v := .ref (sa 0)) rfl dX0_count_109 ?_
      refine z_get (pc := 112) gX (zIo_ok gX) (zm 2 rfl) (ci := 2) (C := RX2) (T := TX2) (N := 8) rfl in_X2 2 (by decide) q154 (fun _ h => h) (v := .int (c 0)) rfl dX0_count_112 ?_
      exact z_rio gX hQX (by rw [show mCount n xm sz c w = c 0 by simp [mCount, c3_0, c3_1, c3_2, c3_3]]) dX0_count_115
    by_cases c3_4 : w = 4
    · refine z_tableIn (pc := 3) gX 116 dX0_count_3 (by rw [c3_4]; decide) (by rw [c3_4]; decide) (by rw [c3_4]; rfl) (by decide) ?_
      refine z_aload_n (pc := 116) gX 0 dX0_count_116 rfl rfl ?_
      refine z_get (pc := 117) gX (zIo_ok gX) (zm 0 rfl) (ci := 0) (C := RX0) (T := TX0) (N := 14) rfl in_X0 4 (by decide) q213 (fun _ h => h) (v := .ref (sa 0)) rfl dX0_count_117 ?_
      refine z_get (pc := 120) gX (zIo_ok gX) (zm 2 rfl) (ci := 2) (C := RX2) (T := TX2) (N := 8) rfl in_X2 1 (by decide) q151 (fun _ h => h) (v := .int (c 1)) rfl dX0_count_120 ?_
      exact z_rio gX hQX (by rw [show mCount n xm sz c w = c 1 by simp [mCount, c3_0, c3_1, c3_2, c3_3, c3_4]]) dX0_count_123
    by_cases c3_5 : w = 5
    · refine z_tableIn (pc := 3) gX 124 dX0_count_3 (by rw [c3_5]; decide) (by rw [c3_5]; decide) (by rw [c3_5]; rfl) (by decide) ?_
      refine z_aload_n (pc := 124) gX 0 dX0_count_124 rfl rfl ?_
      refine z_get (pc := 125) gX (zIo_ok gX) (zm 0 rfl) (ci := 0) (C := RX0) (T := TX0) (N := 14) rfl in_X0 4 (by decide) q213 (fun _ h => h) (v := .ref (sa 0)) rfl dX0_count_125 ?_
      refine z_iconst (pc := 128) gX (-1) dX0_count_128 (by decide) ?_
      refine z_cOV (pc := 129) gX (zIo_ok gX) [.int (-1)] [] [2, 3, 5] (met_X2_those l D B0 sa (c 16) (c 1) (c 0) wn md d n (fun i_ => c (2 + i_)) (-1) (by omega)) q1017 q930 q931 q49 q932 (zm 2 rfl) (ci := 2) rfl rfl hd_X2_those ⟨rfl, rfl⟩ ⟨(Nat.le_of_ble_eq_true rfl), (Nat.le_of_ble_eq_true rfl)⟩ rfl rfl rfl (Nat.le_of_ble_eq_true rfl) ⟨(Nat.le_of_ble_eq_true rfl), (Nat.le_of_ble_eq_true rfl)⟩ dX0_count_129 ?_
      intro _ hu129
      refine z_eq (lv₂ := [(0, .ref o), (1, .int w), (2, .int 0)]) (st₂ := [.int (nI (tN (fun i_ => c (2 + i_)) (-1) n))]) ?_ rfl rfl
      refine z_top (nI (qN c n)) (by rw [tN_q]) ?_
      refine z_cOS (pc := 132) gX (zIo_ok gX) [.int (nI (qN c n))] [] [] (met_J20_bitCount l D B0 (qN c n) (by have := qN_lt c n; have := pow7 (show n ≤ 7 by omega); omega)) q1372 q934 q81 q935 hd_J20_bitCount ⟨rfl, rfl⟩ ⟨(Nat.le_of_ble_eq_true rfl), (Nat.le_of_ble_eq_true rfl)⟩ rfl rfl rfl (Nat.le_of_ble_eq_true rfl) ⟨(Nat.le_of_ble_eq_true rfl), (Nat.le_of_ble_eq_true rfl)⟩ dX0_count_132 ?_
      intro _ hu132
      refine z_eq (lv₂ := [(0, .ref o), (1, .int w), (2, .int 0)]) (st₂ := [.int (nI (popc (qN c n)))]) ?_ rfl rfl
      refine z_top (nI (cntV c (-1) n)) (by rw [popc_q (show n ≤ 7 by omega)]) ?_
      exact z_rio gX hQX (by rw [show mCount n xm sz c w = nI (cntB (fun r => decide (c (2 + r) = -1)) n) by simp [mCount, c3_0, c3_1, c3_2, c3_3, c3_4, c3_5]]; rw [cntB_V]) dX0_count_135
    by_cases c3_6 : w = 6
    · refine z_tableIn (pc := 3) gX 136 dX0_count_3 (by rw [c3_6]; decide) (by rw [c3_6]; decide) (by rw [c3_6]; rfl) (by decide) ?_
      refine z_aload_n (pc := 136) gX 0 dX0_count_136 rfl rfl ?_
      refine z_get (pc := 137) gX (zIo_ok gX) (zm 0 rfl) (ci := 0) (C := RX0) (T := TX0) (N := 14) rfl in_X0 4 (by decide) q213 (fun _ h => h) (v := .ref (sa 0)) rfl dX0_count_137 ?_
      refine z_cOV (pc := 140) gX (zIo_ok gX) [] [] [2, 3] (met_X2_many l D B0 sa (c 16) (c 1) (c 0) wn md d n ) q820 q653 q654 q49 q655 (zm 2 rfl) (ci := 2) rfl rfl hd_X2_many ⟨rfl, rfl⟩ ⟨(Nat.le_of_ble_eq_true rfl), (Nat.le_of_ble_eq_true rfl)⟩ rfl rfl rfl (Nat.le_of_ble_eq_true rfl) ⟨(Nat.le_of_ble_eq_true rfl), (Nat.le_of_ble_eq_true rfl)⟩ dX0_count_140 ?_
      intro _ hu140
      refine z_eq (lv₂ := [(0, .ref o), (1, .int w), (2, .int 0)]) (st₂ := [.int (nI n)]) ?_ rfl rfl
      refine z_aload_n (pc := 143) gX 0 dX0_count_143 rfl rfl ?_
      refine z_get (pc := 144) gX (zIo_ok gX) (zm 0 rfl) (ci := 0) (C := RX0) (T := TX0) (N := 14) rfl in_X0 4 (by decide) q213 (fun _ h => h) (v := .ref (sa 0)) rfl dX0_count_144 ?_
      refine z_iconst (pc := 147) gX (-1) dX0_count_147 (by decide) ?_
      refine z_cOV (pc := 148) gX (zIo_ok gX) [.int (-1)] [.int (nI n)] [2, 3, 5] (met_X2_those l D B0 sa (c 16) (c 1) (c 0) wn md d n (fun i_ => c (2 + i_)) (-1) (by omega)) q1017 q930 q931 q49 q932 (zm 2 rfl) (ci := 2) rfl rfl hd_X2_those ⟨rfl, rfl⟩ ⟨(Nat.le_of_ble_eq_true rfl), (Nat.le_of_ble_eq_true rfl)⟩ rfl rfl rfl (Nat.le_of_ble_eq_true rfl) ⟨(Nat.le_of_ble_eq_true rfl), (Nat.le_of_ble_eq_true rfl)⟩ dX0_count_148 ?_
      intro _ hu148
      refine z_eq (lv₂ := [(0, .ref o), (1, .int w), (2, .int 0)]) (st₂ := [.int (nI (tN (fun i_ => c (2 + i_)) (-1) n)), .int (nI n)]) ?_ rfl rfl
      refine z_top (nI (qN c n)) (by rw [tN_q]) ?_
      refine z_cOS (pc := 151) gX (zIo_ok gX) [.int (nI (qN c n))] [.int (nI n)] [] (met_J20_bitCount l D B0 (qN c n) (by have := qN_lt c n; have := pow7 (show n ≤ 7 by omega); omega)) q1372 q934 q81 q935 hd_J20_bitCount ⟨rfl, rfl⟩ ⟨(Nat.le_of_ble_eq_true rfl), (Nat.le_of_ble_eq_true rfl)⟩ rfl rfl rfl (Nat.le_of_ble_eq_true rfl) ⟨(Nat.le_of_ble_eq_true rfl), (Nat.le_of_ble_eq_true rfl)⟩ dX0_count_151 ?_
      intro _ hu151
      refine z_eq (lv₂ := [(0, .ref o), (1, .int w), (2, .int 0)]) (st₂ := [.int (nI (popc (qN c n))), .int (nI n)]) ?_ rfl rfl
      refine z_top (nI (cntV c (-1) n)) (by rw [popc_q (show n ≤ 7 by omega)]) ?_
      refine z_isub (pc := 154) gX dX0_count_154 ?_
      refine z_aload_n (pc := 155) gX 0 dX0_count_155 rfl rfl ?_
      refine z_get (pc := 156) gX (zIo_ok gX) (zm 0 rfl) (ci := 0) (C := RX0) (T := TX0) (N := 14) rfl in_X0 4 (by decide) q213 (fun _ h => h) (v := .ref (sa 0)) rfl dX0_count_156 ?_
      refine z_cOV (pc := 159) gX (zIo_ok gX) [] [.int ((nI n) - (nI (cntV c (-1) n)))] [2, 3, 5] (met_X2_offs l D B0 sa (c 16) (c 1) (c 0) wn md d n (fun i_ => c (2 + i_)) (by omega)) q925 q926 q927 q49 q928 (zm 2 rfl) (ci := 2) rfl rfl hd_X2_offs ⟨rfl, rfl⟩ ⟨(Nat.le_of_ble_eq_true rfl), (Nat.le_of_ble_eq_true rfl)⟩ rfl rfl rfl (Nat.le_of_ble_eq_true rfl) ⟨(Nat.le_of_ble_eq_true rfl), (Nat.le_of_ble_eq_true rfl)⟩ dX0_count_159 ?_
      intro _ hu159
      refine z_eq (lv₂ := [(0, .ref o), (1, .int w), (2, .int 0)]) (st₂ := [.int (nI (cW (fun i_ => c (2 + i_)) 99 n)), .int ((nI n) - (nI (cntV c (-1) n)))]) ?_ rfl rfl
      refine z_top (nI (cntV c 99 n)) (by rw [cW_c]) ?_
      refine z_isub (pc := 162) gX dX0_count_162 ?_
      exact z_rio gX hQX (by rw [show mCount n xm sz c w = nI (cntB (fun r => mOn (c (2 + r))) n) by simp [mCount, c3_0, c3_1, c3_2, c3_3, c3_4, c3_5, c3_6]]; exact on_eq) dX0_count_163
    by_cases c3_7 : w = 7
    · refine z_tableIn (pc := 3) gX 164 dX0_count_3 (by rw [c3_7]; decide) (by rw [c3_7]; decide) (by rw [c3_7]; rfl) (by decide) ?_
      refine z_aload_n (pc := 164) gX 0 dX0_count_164 rfl rfl ?_
      refine z_get (pc := 165) gX (zIo_ok gX) (zm 0 rfl) (ci := 0) (C := RX0) (T := TX0) (N := 14) rfl in_X0 4 (by decide) q213 (fun _ h => h) (v := .ref (sa 0)) rfl dX0_count_165 ?_
      refine z_cOV (pc := 168) gX (zIo_ok gX) [] [] [2, 3, 5] (met_X2_offs l D B0 sa (c 16) (c 1) (c 0) wn md d n (fun i_ => c (2 + i_)) (by omega)) q925 q926 q927 q49 q928 (zm 2 rfl) (ci := 2) rfl rfl hd_X2_offs ⟨rfl, rfl⟩ ⟨(Nat.le_of_ble_eq_true rfl), (Nat.le_of_ble_eq_true rfl)⟩ rfl rfl rfl (Nat.le_of_ble_eq_true rfl) ⟨(Nat.le_of_ble_eq_true rfl), (Nat.le_of_ble_eq_true rfl)⟩ dX0_count_168 ?_
      intro _ hu168
      refine z_eq (lv₂ := [(0, .ref o), (1, .int w), (2, .int 0)]) (st₂ := [.int (nI (cW (fun i_ => c (2 + i_)) 99 n))]) ?_ rfl rfl
      refine z_top (nI (cntV c 99 n)) (by rw [cW_c]) ?_
      exact z_rio gX hQX (by rw [show mCount n xm sz c w = nI (cntV c 99 n) by simp [mCount, c3_0, c3_1, c3_2, c3_3, c3_4, c3_5, c3_6, c3_7]]) dX0_count_171
    by_cases c3_8 : w = 8
    · refine z_tableIn (pc := 3) gX 172 dX0_count_3 (by rw [c3_8]; decide) (by rw [c3_8]; decide) (by rw [c3_8]; rfl) (by decide) ?_
      refine z_aload_n (pc := 172) gX 0 dX0_count_172 rfl rfl ?_
      refine z_get (pc := 173) gX (zIo_ok gX) (zm 0 rfl) (ci := 0) (C := RX0) (T := TX0) (N := 14) rfl in_X0 7 (by decide) q216 (fun _ h => h) (v := .int (x 2)) rfl dX0_count_173 ?_
      exact z_rio gX hQX (by rw [show mCount n xm sz c w = xm 3 by simp [mCount, c3_0, c3_1, c3_2, c3_3, c3_4, c3_5, c3_6, c3_7, c3_8]]; exact hx2) dX0_count_176
    by_cases c3_9 : w = 9
    · refine z_tableIn (pc := 3) gX 177 dX0_count_3 (by rw [c3_9]; decide) (by rw [c3_9]; decide) (by rw [c3_9]; rfl) (by decide) ?_
      refine z_aload_n (pc := 177) gX 0 dX0_count_177 rfl rfl ?_
      refine z_get (pc := 178) gX (zIo_ok gX) (zm 0 rfl) (ci := 0) (C := RX0) (T := TX0) (N := 14) rfl in_X0 2 (by decide) q209 (fun _ h => h) (v := .int (x 0)) rfl dX0_count_178 ?_
      exact z_rio gX hQX (by rw [show mCount n xm sz c w = xm 1 by simp [mCount, c3_0, c3_1, c3_2, c3_3, c3_4, c3_5, c3_6, c3_7, c3_8, c3_9]]; exact hx0) dX0_count_181
    have t3_0 : ¬ w.toInt = 0 := lv_neT c3_0 (by decide)
    have t3_1 : ¬ w.toInt = 1 := lv_neT c3_1 (by decide)
    have t3_2 : ¬ w.toInt = 2 := lv_neT c3_2 (by decide)
    have t3_3 : ¬ w.toInt = 3 := lv_neT c3_3 (by decide)
    have t3_4 : ¬ w.toInt = 4 := lv_neT c3_4 (by decide)
    have t3_5 : ¬ w.toInt = 5 := lv_neT c3_5 (by decide)
    have t3_6 : ¬ w.toInt = 6 := lv_neT c3_6 (by decide)
    have t3_7 : ¬ w.toInt = 7 := lv_neT c3_7 (by decide)
    have t3_8 : ¬ w.toInt = 8 := lv_neT c3_8 (by decide)
    have t3_9 : ¬ w.toInt = 9 := lv_neT c3_9 (by decide)
    refine z_tableOut (pc := 3) gX 182 dX0_count_3 (by omega) (by decide) ?_
    refine z_ldc (pc := 182) gX q350 dX0_count_182 ?_
    exact z_rio gX hQX (by simp [mCount, c3_0, c3_1, c3_2, c3_3, c3_4, c3_5, c3_6, c3_7, c3_8, c3_9]) dX0_count_184
theorem hd_X0_count : zHd yX0_count 1 := by unfold zHd; decide +kernel

