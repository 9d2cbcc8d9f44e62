set_option maxRecDepth 100000
/-! WHAT IS ASKED of the stair: rider, step, kind, status, fault, trace, feed -/
theorem inN {v : Int32} {k : Nat} (hk : k ≤ 1000) (h : mIn v 0 (nI k - 1) = true) : ∃ p, p < k ∧ v = nI p := by
  cases k with
  | zero =>
    simp only [mIn, Bool.and_eq_true, decide_eq_true_eq] at h
    exact absurd (Int32.le_trans h.1 h.2) (by decide)
  | succ k =>
    rw [nI_pred] at h
    obtain ⟨j, hj, e⟩ := mIn_nat h k (nI_toInt (by omega))
    exact ⟨j, by omega, e⟩
theorem up_eq {n k j : Nat} {c : Nat → Int32} (h : wR n c) (hj : j < n) (h16 : c 16 = nI k) (hk : k ≤ 12) (hk4 : 4 ≤ k) : mIn (c (2 + j)) 0 (c 16 - 2) = (mOn (c (2 + j)) && decide (c (2 + j) < c 16 - 1)) := by
  rw [h16]
  cases e : mOn (c (2 + j)) with
  | true =>
    have hv := h.2 j hj e
    rw [h16] at hv
    obtain ⟨p, hp, ep⟩ := inK hk hv
    rw [ep]
    have h : ∀ k : Nat, k ≤ 12 → ∀ p : Nat, p < k → mIn (nI p) 0 (nI k - 2) = decide (nI p < nI k - 1) := by decide +kernel
    rw [h k hk p hp, Bool.true_and]
  | false =>
    have hv : c (2 + j) = -1 ∨ c (2 + j) = 99 := by
      simp only [mOn, Bool.and_eq_false_imp, Bool.not_eq_true', decide_eq_false_iff_not, Bool.not_eq_false', decide_eq_true_eq] at e
      by_cases e1 : c (2 + j) = -1
      · exact Or.inl e1
      · exact Or.inr (e e1)
    have h : ∀ k : Nat, k ≤ 12 → mIn (-1) 0 (nI k - 2) = false ∧ mIn 99 0 (nI k - 2) = false := by decide +kernel
    rcases hv with e1 | e1 <;> rw [e1]
    · rw [(h k hk).1]; rfl
    · rw [(h k hk).2]; rfl
theorem in16 {c : Nat → Int32} {r : Int32} (h : c 16 = 0) : mIn r 0 (c 16 - 1) = false := by
  rw [h]
  cases e : mIn r 0 (0 - 1) with
  | false => rfl
  | true =>
    simp only [mIn, Bool.and_eq_true, decide_eq_true_eq] at e
    exact absurd (Int32.le_trans e.1 e.2) (by decide)
theorem step0 {p la : Int32} {n : Nat} {c : Nat → Int32} (h : c 16 = 0) : mStep n c p la = -1000001 := by
  simp only [mStep]
  rw [if_neg]
  rw [h]
  intro e
  simp only [Bool.and_eq_true, mIn, decide_eq_true_eq] at e
  exact absurd (Int32.le_trans e.1.1 e.1.2) (by decide)

set_option maxHeartbeats 4000000 in
theorem met_X0_rider (l : Launch) (D : va_G) (B0 : Nat) (o : Nat) (ad : Nat → Nat) (sa : Nat → Nat) (sb : Nat → Nat) (tr : Nat) (x : Nat → Int32) (da : Option Nat) (n : Nat) (ra : Nat → Nat) (md : Int32) (wn : Int32) (od : Nat → Int32) (c : Nat → Int32) (T : va_W) (k : Nat) (r : Int32) (w : Int32) (hS : sOK T da n k ra c) (hw : 0 < n → wR n c) : Met l yX0_rider (ws_ yX0_rider cX0_rider 4 (some .int)) (zRm 8 0 0) (va_Pc [.ref o, .int r, .int w] (zPreO B0 D [cOb o ad (sa 0) (sb 0) tr x, thP D sa ((da, n, ra), (md, wn, od), c), T])) (zQo (S := Unit) (fun _ => True) (fun _ => some (.int (mRider n c r w)))) 0 0 (fun _ => False) := by
  refine z_entryo (by decide +kernel) (Nat.le_of_ble_eq_true rfl) (fun pX eX sX mX argsX blX mtX cX QX hQX gX => ?_)
  refine z_eq (lv₂ := [(0, .ref o), (1, .int r), (2, .int w)]) (st₂ := []) ?_ rfl rfl
  rcases hS with ⟨rfl, rfl, h16, h17⟩ | ⟨⟨d, rfl⟩, hG⟩
  · skip
    refine z_wso [cOb o ad (sa 0) (sb 0) tr x, [(sa 0, .inr (2, [.int (c 16), .int (c 1), .int (c 0), .int wn, .ref (sa 1), .ref (sa 2), .ref (sa 3), .ref (sa 4)]))], [(sa 1, .inr (16, [.int md, .ref (zEE D), .int (nI 0)]))], [(sa 2, .inl (D.1 100, 7, .inl (fun i_ => c (9 + i_))))], [(sa 3, .inl (D.1 100, 7, .inl (fun i_ => c (2 + i_))))], [(sa 4, .inl (D.1 100, 7, .inl od))], T] (fun _ h => h) ?_
    refine z_aload_n (pc := 0) gX 0 dX0_rider_0 rfl rfl ?_
    refine z_iload_n (pc := 1) gX 1 dX0_rider_1 rfl rfl ?_
    refine z_cOV (pc := 2) gX (zIo_ok gX) [.int r] [] [0, 1, 2] (met_X0_isRider l D B0 o ad sa sb tr x (c 16) (c 1) (c 0) wn md (zEE D) 0 r ) q947 q949 qs22 q47 q950 (zm 0 rfl) (ci := 0) rfl rfl hd_X0_isRider ⟨rfl, rfl⟩ ⟨(Nat.le_of_ble_eq_true rfl), (Nat.le_of_ble_eq_true rfl)⟩ rfl rfl rfl (Nat.le_of_ble_eq_true rfl) ⟨(Nat.le_of_ble_eq_true rfl), (Nat.le_of_ble_eq_true rfl)⟩ dX0_rider_2 ?_
    intro _ hu2
    refine z_eq (lv₂ := [(0, .ref o), (1, .int r), (2, .int w)]) (st₂ := [.int (bI (mIn r 0 (nI 0 - 1)))]) ?_ rfl rfl
    refine z_top (bI (mIn r 0 (c 17 - 1))) (congrArg (fun z => bI (mIn r 0 (z - 1))) h17.symm) ?_
    refine z_if_ne (pc := 5) gX 11 dX0_rider_5 (by decide) (fun c5 => ?_) (fun c5 => ?_)
    · skip
      have k5 : (mIn r 0 (c 17 - 1)) = true := bI_ne0 c5
      exact absurd k5 (by rw [inF h17]; decide)
    · skip
      have k5 : (mIn r 0 (c 17 - 1)) = false := bI_eq0 c5
      refine z_ldc (pc := 8) gX q350 dX0_rider_8 ?_
      exact z_rio gX hQX (by simp [mRider, inF h17]) dX0_rider_10
  · skip
    have hK := hG.k
    have hn1 := hG.1
    have hn7 := hG.2.1
    have h17 := hG.2.2.1
    have h16 := hG.2.2.2.1
    have hk4 := hG.2.2.2.2.1
    have hk12 := hG.2.2.2.2.2.1
    have hln := hG.2.2.2.2.2.2.1
    have hR := hG.2.2.2.2.2.2.2
    refine z_wso [cOb o ad (sa 0) (sb 0) tr x, [(sa 0, .inr (2, [.int (c 16), .int (c 1), .int (c 0), .int wn, .ref (sa 1), .ref (sa 2), .ref (sa 3), .ref (sa 4)]))], [(sa 1, .inr (16, [.int md, .ref d, .int (nI n)]))], [(sa 2, .inl (D.1 100, 7, .inl (fun i_ => c (9 + i_))))], [(sa 3, .inl (D.1 100, 7, .inl (fun i_ => c (2 + i_))))], [(sa 4, .inl (D.1 100, 7, .inl od))], [(d, .inl (D.1 104, 10, .inr (.inr (.inr (.inr (rF ra n))))))], T] (fun _ h => h) ?_
    refine z_aload_n (pc := 0) gX 0 dX0_rider_0 rfl rfl ?_
    refine z_iload_n (pc := 1) gX 1 dX0_rider_1 rfl rfl ?_
    refine z_cOV (pc := 2) gX (zIo_ok gX) [.int r] [] [0, 1, 2] (met_X0_isRider l D B0 o ad sa sb tr x (c 16) (c 1) (c 0) wn md d n r ) q947 q949 qs22 q47 q950 (zm 0 rfl) (ci := 0) rfl rfl hd_X0_isRider ⟨rfl, rfl⟩ ⟨(Nat.le_of_ble_eq_true rfl), (Nat.le_of_ble_eq_true rfl)⟩ rfl rfl rfl (Nat.le_of_ble_eq_true rfl) ⟨(Nat.le_of_ble_eq_true rfl), (Nat.le_of_ble_eq_true rfl)⟩ dX0_rider_2 ?_
    intro _ hu2
    refine z_eq (lv₂ := [(0, .ref o), (1, .int r), (2, .int w)]) (st₂ := [.int (bI (mIn r 0 (nI n - 1)))]) ?_ rfl rfl
    refine z_top (bI (mIn r 0 (c 17 - 1))) (congrArg (fun z => bI (mIn r 0 (z - 1))) h17.symm) ?_
    refine z_if_ne (pc := 5) gX 11 dX0_rider_5 (by decide) (fun c5 => ?_) (fun c5 => ?_)
    · skip
      have k5 : (mIn r 0 (c 17 - 1)) = true := bI_ne0 c5
      obtain ⟨j, hj, rfl⟩ := riderN k5 h17 hn7
      refine z_aload_n (pc := 11) gX 0 dX0_rider_11 rfl rfl ?_
      refine z_get (pc := 12) gX (zIo_ok gX) (zm 0 rfl) (ci := 0) (C := RX0) (T := TX0) (N := 14) rfl in_X0 4 (by decide) q213 (fun _ h => h) (v := .ref (sa 0)) rfl dX0_rider_12 ?_
      refine z_get (pc := 15) gX (zIo_ok gX) (zm 1 rfl) (ci := 2) (C := RX2) (T := TX2) (N := 8) rfl in_X2 6 (by decide) q171 (fun _ h => h) (v := .ref (sa 3)) rfl dX0_rider_15 ?_
      refine z_iload_n (pc := 18) gX 1 dX0_rider_18 rfl rfl ?_
      refine z_iald (pc := 19) gX (zIo_ok gX) (j := j) (n := 7) (f := (fun i_ => c (2 + i_))) (zm 4 rfl) (by omega) (by decide) dX0_rider_19 ?_
      refine z_top (c (2 + j)) rfl ?_
      refine z_istore_n (pc := 20) gX [1, 2, 3, 0] [(0, .ref o), (1, .int (nI j)), (2, .int w), (3, .int (c (2 + j)))] dX0_rider_20 rfl (by decide) rfl ?_
      refine z_iload_n (pc := 21) gX 2 dX0_rider_21 rfl rfl ?_
      by_cases c22_0 : w = 0
      · refine z_tableIn (pc := 22) gX 52 dX0_rider_22 (by rw [c22_0]; decide) (by rw [c22_0]; decide) (by rw [c22_0]; rfl) (by decide) ?_
        refine z_iload_n (pc := 52) gX 3 dX0_rider_52 rfl rfl ?_
        exact z_rio gX hQX (by simp [mRider, k5, c22_0, nI_clamp (show j < 2 ^ 31 by omega)]) dX0_rider_53
      by_cases c22_1 : w = 1
      · refine z_tableIn (pc := 22) gX 54 dX0_rider_22 (by rw [c22_1]; decide) (by rw [c22_1]; decide) (by rw [c22_1]; rfl) (by decide) ?_
        refine z_aload_n (pc := 54) gX 0 dX0_rider_54 rfl rfl ?_
        refine z_get (pc := 55) gX (zIo_ok gX) (zm 0 rfl) (ci := 0) (C := RX0) (T := TX0) (N := 14) rfl in_X0 4 (by decide) q213 (fun _ h => h) (v := .ref (sa 0)) rfl dX0_rider_55 ?_
        refine z_get (pc := 58) gX (zIo_ok gX) (zm 1 rfl) (ci := 2) (C := RX2) (T := TX2) (N := 8) rfl in_X2 5 (by decide) q166 (fun _ h => h) (v := .ref (sa 2)) rfl dX0_rider_58 ?_
        refine z_iload_n (pc := 61) gX 1 dX0_rider_61 rfl rfl ?_
        refine z_iald (pc := 62) gX (zIo_ok gX) (j := j) (n := 7) (f := (fun i_ => c (9 + i_))) (zm 3 rfl) (by omega) (by decide) dX0_rider_62 ?_
        refine z_top (c (9 + j)) rfl ?_
        exact z_rio gX hQX (by simp [mRider, k5, c22_0, c22_1, nI_clamp (show j < 2 ^ 31 by omega)]) dX0_rider_63
      by_cases c22_2 : w = 2
      · refine z_tableIn (pc := 22) gX 64 dX0_rider_22 (by rw [c22_2]; decide) (by rw [c22_2]; decide) (by rw [c22_2]; rfl) (by decide) ?_
        refine z_aload_n (pc := 64) gX 0 dX0_rider_64 rfl rfl ?_
        refine z_get (pc := 65) gX (zIo_ok gX) (zm 0 rfl) (ci := 0) (C := RX0) (T := TX0) (N := 14) rfl in_X0 4 (by decide) q213 (fun _ h => h) (v := .ref (sa 0)) rfl dX0_rider_65 ?_
        refine z_iload_n (pc := 68) gX 1 dX0_rider_68 rfl rfl ?_
        refine z_cOV (pc := 69) gX (zIo_ok gX) [.int (nI j)] [] [1, 2, 3, 4, 5, 6, 7] (met_X2_isWide l D B0 sa (c 16) (c 1) (c 0) wn md d n (fun i_ => c (9 + i_)) (fun i_ => c (2 + i_)) od ra (fun i_ => c (18 + i_)) T j (by first | assumption | omega) (by first | assumption | omega) (by first | assumption | omega)) q972 q877 q878 q49 q879 (zm 1 rfl) (ci := 2) rfl rfl hd_X2_isWide ⟨rfl, rfl⟩ ⟨(Nat.le_of_ble_eq_true rfl), (Nat.le_of_ble_eq_true rfl)⟩ rfl rfl rfl (Nat.le_of_ble_eq_true rfl) ⟨(Nat.le_of_ble_eq_true rfl), (Nat.le_of_ble_eq_true rfl)⟩ dX0_rider_69 ?_
        intro _ hu69
        refine z_eq (lv₂ := [(0, .ref o), (1, .int (nI j)), (2, .int w), (3, .int (c (2 + j)))]) (st₂ := [.int (bI (decide (4 ≤ (fun i_ => c (18 + i_)) j)))]) ?_ rfl rfl
        refine z_top (bI (decide (4 ≤ c (18 + j)))) (rfl) ?_
        refine z_if_eq (pc := 72) gX 79 dX0_rider_72 (by decide) (fun c72 => ?_) (fun c72 => ?_)
        · skip
          have k72 : (decide (4 ≤ c (18 + j))) = false := bI_eq0 c72
          refine z_iconst (pc := 79) gX 0 dX0_rider_79 (by decide) ?_
          exact z_rio gX hQX (by rw [show mRider n c (nI j) w = (if c (18 + j) < 4 then 0 else 1) by simp [mRider, k5, c22_0, c22_1, c22_2, nI_clamp (show j < 2 ^ 31 by omega)]]; rw [if_pos (Int32.not_le.mp (of_decide_eq_false k72))]) dX0_rider_80
        · skip
          have k72 : (decide (4 ≤ c (18 + j))) = true := bI_ne0 c72
          refine z_iconst (pc := 75) gX 1 dX0_rider_75 (by decide) ?_
          refine z_goto (pc := 76) gX 80 dX0_rider_76 (by decide) ?_
          exact z_rio gX hQX (by rw [show mRider n c (nI j) w = (if c (18 + j) < 4 then 0 else 1) by simp [mRider, k5, c22_0, c22_1, c22_2, nI_clamp (show j < 2 ^ 31 by omega)]]; rw [if_neg (Int32.not_lt.mpr (of_decide_eq_true k72))]) dX0_rider_80
      by_cases c22_3 : w = 3
      · refine z_tableIn (pc := 22) gX 81 dX0_rider_22 (by rw [c22_3]; decide) (by rw [c22_3]; decide) (by rw [c22_3]; rfl) (by decide) ?_
        refine z_iload_n (pc := 81) gX 3 dX0_rider_81 rfl rfl ?_
        refine z_i2l (pc := 82) gX dX0_rider_82 ?_
        refine z_lconst (pc := 83) gX 0 dX0_rider_83 rfl ?_
        refine z_aload_n (pc := 84) gX 0 dX0_rider_84 rfl rfl ?_
        refine z_get (pc := 85) gX (zIo_ok gX) (zm 0 rfl) (ci := 0) (C := RX0) (T := TX0) (N := 14) rfl in_X0 4 (by decide) q213 (fun _ h => h) (v := .ref (sa 0)) rfl dX0_rider_85 ?_
        refine z_get (pc := 88) gX (zIo_ok gX) (zm 1 rfl) (ci := 2) (C := RX2) (T := TX2) (N := 8) rfl in_X2 0 (by decide) q147 (fun _ h => h) (v := .int (c 16)) rfl dX0_rider_88 ?_
        refine z_iconst (pc := 91) gX 2 dX0_rider_91 (by decide) ?_
        refine z_isub (pc := 92) gX dX0_rider_92 ?_
        refine z_i2l (pc := 93) gX dX0_rider_93 ?_
        refine z_cOS (pc := 94) gX (zIo_ok gX) [.long ((c (2 + j)).toInt64), .long 0, .long (((c 16) - 2).toInt64)] [] [] (met_X0_isIn l D B0 ((c (2 + j)).toInt64) 0 (((c 16) - 2).toInt64) ) q346 q347 q47 q348 hd_X0_isIn ⟨rfl, rfl⟩ ⟨(Nat.le_of_ble_eq_true rfl), (Nat.le_of_ble_eq_true rfl)⟩ rfl rfl rfl (Nat.le_of_ble_eq_true rfl) ⟨(Nat.le_of_ble_eq_true rfl), (Nat.le_of_ble_eq_true rfl)⟩ dX0_rider_94 ?_
        intro _ hu94
        refine z_eq (lv₂ := [(0, .ref o), (1, .int (nI j)), (2, .int w), (3, .int (c (2 + j)))]) (st₂ := [.int (bI (lIn ((c (2 + j)).toInt64) 0 (((c 16) - 2).toInt64)))]) ?_ rfl rfl
        refine z_top (bI (mIn (c (2 + j)) 0 ((c 16) - 2))) (congrArg bI (lIn_eq rfl (by decide) rfl)) ?_
        refine z_if_eq (pc := 97) gX 127 dX0_rider_97 (by decide) (fun c97 => ?_) (fun c97 => ?_)
        · skip
          have k97 : (mIn (c (2 + j)) 0 ((c 16) - 2)) = false := bI_eq0 c97
          refine z_iconst (pc := 127) gX 0 dX0_rider_127 (by decide) ?_
          exact z_rio gX hQX (by rw [show mRider n c (nI j) w = bI (mOn (c (2 + j)) && decide (c (2 + j) < c 16 - 1) && mFreeTo c j (c (2 + j) + 1) (c (9 + j)) n) by simp [mRider, k5, c22_0, c22_1, c22_2, c22_3, nI_clamp (show j < 2 ^ 31 by omega)], ← up_eq (hw (by omega)) hj h16 hk12 hk4, k97]; rfl) dX0_rider_128
        · skip
          have k97 : (mIn (c (2 + j)) 0 ((c 16) - 2)) = true := bI_ne0 c97
          refine z_aload_n (pc := 100) gX 0 dX0_rider_100 rfl rfl ?_
          refine z_get (pc := 101) gX (zIo_ok gX) (zm 0 rfl) (ci := 0) (C := RX0) (T := TX0) (N := 14) rfl in_X0 4 (by decide) q213 (fun _ h => h) (v := .ref (sa 0)) rfl dX0_rider_101 ?_
          refine z_iload_n (pc := 104) gX 1 dX0_rider_104 rfl rfl ?_
          refine z_iload_n (pc := 105) gX 3 dX0_rider_105 rfl rfl ?_
          refine z_iconst (pc := 106) gX 1 dX0_rider_106 (by decide) ?_
          refine z_iadd (pc := 107) gX dX0_rider_107 ?_
          refine z_aload_n (pc := 108) gX 0 dX0_rider_108 rfl rfl ?_
          refine z_get (pc := 109) gX (zIo_ok gX) (zm 0 rfl) (ci := 0) (C := RX0) (T := TX0) (N := 14) rfl in_X0 4 (by decide) q213 (fun _ h => h) (v := .ref (sa 0)) rfl dX0_rider_109 ?_
          refine z_get (pc := 112) gX (zIo_ok gX) (zm 1 rfl) (ci := 2) (C := RX2) (T := TX2) (N := 8) rfl in_X2 5 (by decide) q166 (fun _ h => h) (v := .ref (sa 2)) rfl dX0_rider_112 ?_
          refine z_iload_n (pc := 115) gX 1 dX0_rider_115 rfl rfl ?_
          refine z_iald (pc := 116) gX (zIo_ok gX) (j := j) (n := 7) (f := (fun i_ => c (9 + i_))) (zm 3 rfl) (by omega) (by decide) dX0_rider_116 ?_
          refine z_top (c (9 + j)) rfl ?_
          refine z_cOV (pc := 117) gX (zIo_ok gX) [.int (nI j), .int ((c (2 + j)) + 1), .int (c (9 + j))] [] [1, 2, 3, 4, 5, 6, 7] (met_X2_isFree l D B0 sa (c 16) (c 1) (c 0) wn md d n (fun i_ => c (9 + i_)) (fun i_ => c (2 + i_)) od ra (fun i_ => c (18 + i_)) T j ((c (2 + j)) + 1) (c (9 + j)) (by first | assumption | omega) (by first | assumption | omega) hln (by first | assumption | omega) (hln j hj)) q952 q869 q870 q49 q871 (zm 1 rfl) (ci := 2) rfl rfl hd_X2_isFree ⟨rfl, rfl⟩ ⟨(Nat.le_of_ble_eq_true rfl), (Nat.le_of_ble_eq_true rfl)⟩ rfl rfl rfl (Nat.le_of_ble_eq_true rfl) ⟨(Nat.le_of_ble_eq_true rfl), (Nat.le_of_ble_eq_true rfl)⟩ dX0_rider_117 ?_
          intro _ hu117
          refine z_eq (lv₂ := [(0, .ref o), (1, .int (nI j)), (2, .int w), (3, .int (c (2 + j)))]) (st₂ := [.int (bI (mFreeTo (pkC (c 16) (c 1) (c 0) n (fun i_ => c (9 + i_)) (fun i_ => c (2 + i_)) (fun i_ => c (18 + i_))) j ((c (2 + j)) + 1) (c (9 + j)) n))]) ?_ rfl rfl
          refine z_top (bI (mFreeTo c j ((c (2 + j)) + 1) (c (9 + j)) n)) (by rw [pkC_eta h17]) ?_
          refine z_if_eq (pc := 120) gX 127 dX0_rider_120 (by decide) (fun c120 => ?_) (fun c120 => ?_)
          · skip
            have k120 : (mFreeTo c j ((c (2 + j)) + 1) (c (9 + j)) n) = false := bI_eq0 c120
            refine z_iconst (pc := 127) gX 0 dX0_rider_127 (by decide) ?_
            exact z_rio gX hQX (by rw [show mRider n c (nI j) w = bI (mOn (c (2 + j)) && decide (c (2 + j) < c 16 - 1) && mFreeTo c j (c (2 + j) + 1) (c (9 + j)) n) by simp [mRider, k5, c22_0, c22_1, c22_2, c22_3, nI_clamp (show j < 2 ^ 31 by omega)], ← up_eq (hw (by omega)) hj h16 hk12 hk4, k97]; rw [k120]; rfl) dX0_rider_128
          · skip
            have k120 : (mFreeTo c j ((c (2 + j)) + 1) (c (9 + j)) n) = true := bI_ne0 c120
            refine z_iconst (pc := 123) gX 1 dX0_rider_123 (by decide) ?_
            refine z_goto (pc := 124) gX 128 dX0_rider_124 (by decide) ?_
            exact z_rio gX hQX (by rw [show mRider n c (nI j) w = bI (mOn (c (2 + j)) && decide (c (2 + j) < c 16 - 1) && mFreeTo c j (c (2 + j) + 1) (c (9 + j)) n) by simp [mRider, k5, c22_0, c22_1, c22_2, c22_3, nI_clamp (show j < 2 ^ 31 by omega)], ← up_eq (hw (by omega)) hj h16 hk12 hk4, k97]; rw [k120]; rfl) dX0_rider_128
      have t22_0 : ¬ w.toInt = 0 := lv_neT c22_0 (by decide)
      have t22_1 : ¬ w.toInt = 1 := lv_neT c22_1 (by decide)
      have t22_2 : ¬ w.toInt = 2 := lv_neT c22_2 (by decide)
      have t22_3 : ¬ w.toInt = 3 := lv_neT c22_3 (by decide)
      refine z_tableOut (pc := 22) gX 129 dX0_rider_22 (by omega) (by decide) ?_
      refine z_ldc (pc := 129) gX q350 dX0_rider_129 ?_
      exact z_rio gX hQX (by simp [mRider, k5, c22_0, c22_1, c22_2, c22_3, nI_clamp (show j < 2 ^ 31 by omega)]) dX0_rider_131
    · skip
      have k5 : (mIn r 0 (c 17 - 1)) = false := bI_eq0 c5
      refine z_ldc (pc := 8) gX q350 dX0_rider_8 ?_
      exact z_rio gX hQX (by simp [mRider, k5]) dX0_rider_10
theorem hd_X0_rider : zHd yX0_rider 2 := by unfold zHd; decide +kernel

set_option maxHeartbeats 4000000 in
theorem met_X0_step (l : Launch) (D : va_G) (B0 : Nat) (o : Nat) (ad : Nat → Nat) (sa : Nat → Nat) (sb : Nat → Nat) (tr : Nat) (x : Nat → Int32) (da : Option Nat) (n : Nat) (ra : Nat → Nat) (md : Int32) (wn : Int32) (od : Nat → Int32) (c : Nat → Int32) (T : va_W) (k : Nat) (p : Int32) (la : Int32) (hS : sOK T da n k ra c) : Met l yX0_step (ws_ yX0_step cX0_step 5 (some .int)) (zRm 8 0 0) (va_Pc [.ref o, .int p, .int la] (zPreO B0 D [cOb o ad (sa 0) (sb 0) tr x, thP D sa ((da, n, ra), (md, wn, od), c), T])) (zQo (S := Unit) (fun _ => True) (fun _ => some (.int (mStep n c p la)))) 0 0 (fun _ => False) := by
  refine z_entryo (by decide +kernel) (Nat.le_of_ble_eq_true rfl) (fun pX eX sX mX argsX blX mtX cX QX hQX gX => ?_)
  refine z_eq (lv₂ := [(0, .ref o), (1, .int p), (2, .int la)]) (st₂ := []) ?_ rfl rfl
  rcases hS with ⟨rfl, rfl, h16, h17⟩ | ⟨⟨d, rfl⟩, hG⟩
  · skip
    refine z_wso [cOb o ad (sa 0) (sb 0) tr x, [(sa 0, .inr (2, [.int (c 16), .int (c 1), .int (c 0), .int wn, .ref (sa 1), .ref (sa 2), .ref (sa 3), .ref (sa 4)]))], [(sa 1, .inr (16, [.int md, .ref (zEE D), .int (nI 0)]))], [(sa 2, .inl (D.1 100, 7, .inl (fun i_ => c (9 + i_))))], [(sa 3, .inl (D.1 100, 7, .inl (fun i_ => c (2 + i_))))], [(sa 4, .inl (D.1 100, 7, .inl od))], T] (fun _ h => h) ?_
    refine z_iload_n (pc := 0) gX 1 dX0_step_0 rfl rfl ?_
    refine z_i2l (pc := 1) gX dX0_step_1 ?_
    refine z_lconst (pc := 2) gX 0 dX0_step_2 rfl ?_
    refine z_aload_n (pc := 3) gX 0 dX0_step_3 rfl rfl ?_
    refine z_get (pc := 4) gX (zIo_ok gX) (zm 0 rfl) (ci := 0) (C := RX0) (T := TX0) (N := 14) rfl in_X0 4 (by decide) q213 (fun _ h => h) (v := .ref (sa 0)) rfl dX0_step_4 ?_
    refine z_get (pc := 7) gX (zIo_ok gX) (zm 1 rfl) (ci := 2) (C := RX2) (T := TX2) (N := 8) rfl in_X2 0 (by decide) q147 (fun _ h => h) (v := .int (c 16)) rfl dX0_step_7 ?_
    refine z_iconst (pc := 10) gX 1 dX0_step_10 (by decide) ?_
    refine z_isub (pc := 11) gX dX0_step_11 ?_
    refine z_i2l (pc := 12) gX dX0_step_12 ?_
    refine z_cOS (pc := 13) gX (zIo_ok gX) [.long p.toInt64, .long 0, .long (((c 16) - 1).toInt64)] [] [] (met_X0_isIn l D B0 p.toInt64 0 (((c 16) - 1).toInt64) ) q346 q347 q47 q348 hd_X0_isIn ⟨rfl, rfl⟩ ⟨(Nat.le_of_ble_eq_true rfl), (Nat.le_of_ble_eq_true rfl)⟩ rfl rfl rfl (Nat.le_of_ble_eq_true rfl) ⟨(Nat.le_of_ble_eq_true rfl), (Nat.le_of_ble_eq_true rfl)⟩ dX0_step_13 ?_
    intro _ hu13
    refine z_eq (lv₂ := [(0, .ref o), (1, .int p), (2, .int la)]) (st₂ := [.int (bI (lIn p.toInt64 0 (((c 16) - 1).toInt64)))]) ?_ rfl rfl
    refine z_top (bI (mIn p 0 ((c 16) - 1))) (congrArg bI (lIn_eq rfl (by decide) rfl)) ?_
    refine z_if_eq (pc := 16) gX 26 dX0_step_16 (by decide) (fun c16 => ?_) (fun c16 => ?_)
    · skip
      have k16 : (mIn p 0 ((c 16) - 1)) = false := bI_eq0 c16
      refine z_ldc (pc := 26) gX q350 dX0_step_26 ?_
      exact z_rio gX hQX ((step0 h16).symm) dX0_step_28
    · skip
      have k16 : (mIn p 0 ((c 16) - 1)) = true := bI_ne0 c16
      exact absurd k16 (by rw [in16 h16]; decide)
  · skip
    have hK := hG.k
    have hn1 := hG.1
    have hn7 := hG.2.1
    have h17 := hG.2.2.1
    have h16 := hG.2.2.2.1
    have hk4 := hG.2.2.2.2.1
    have hk12 := hG.2.2.2.2.2.1
    have hln := hG.2.2.2.2.2.2.1
    have hR := hG.2.2.2.2.2.2.2
    refine z_wso [cOb o ad (sa 0) (sb 0) tr x, [(sa 0, .inr (2, [.int (c 16), .int (c 1), .int (c 0), .int wn, .ref (sa 1), .ref (sa 2), .ref (sa 3), .ref (sa 4)]))], [(sa 1, .inr (16, [.int md, .ref d, .int (nI n)]))], [(sa 2, .inl (D.1 100, 7, .inl (fun i_ => c (9 + i_))))], [(sa 3, .inl (D.1 100, 7, .inl (fun i_ => c (2 + i_))))], [(sa 4, .inl (D.1 100, 7, .inl od))], [(d, .inl (D.1 104, 10, .inr (.inr (.inr (.inr (rF ra n))))))], T] (fun _ h => h) ?_
    refine z_iload_n (pc := 0) gX 1 dX0_step_0 rfl rfl ?_
    refine z_i2l (pc := 1) gX dX0_step_1 ?_
    refine z_lconst (pc := 2) gX 0 dX0_step_2 rfl ?_
    refine z_aload_n (pc := 3) gX 0 dX0_step_3 rfl rfl ?_
    refine z_get (pc := 4) gX (zIo_ok gX) (zm 0 rfl) (ci := 0) (C := RX0) (T := TX0) (N := 14) rfl in_X0 4 (by decide) q213 (fun _ h => h) (v := .ref (sa 0)) rfl dX0_step_4 ?_
    refine z_get (pc := 7) gX (zIo_ok gX) (zm 1 rfl) (ci := 2) (C := RX2) (T := TX2) (N := 8) rfl in_X2 0 (by decide) q147 (fun _ h => h) (v := .int (c 16)) rfl dX0_step_7 ?_
    refine z_iconst (pc := 10) gX 1 dX0_step_10 (by decide) ?_
    refine z_isub (pc := 11) gX dX0_step_11 ?_
    refine z_i2l (pc := 12) gX dX0_step_12 ?_
    refine z_cOS (pc := 13) gX (zIo_ok gX) [.long p.toInt64, .long 0, .long (((c 16) - 1).toInt64)] [] [] (met_X0_isIn l D B0 p.toInt64 0 (((c 16) - 1).toInt64) ) q346 q347 q47 q348 hd_X0_isIn ⟨rfl, rfl⟩ ⟨(Nat.le_of_ble_eq_true rfl), (Nat.le_of_ble_eq_true rfl)⟩ rfl rfl rfl (Nat.le_of_ble_eq_true rfl) ⟨(Nat.le_of_ble_eq_true rfl), (Nat.le_of_ble_eq_true rfl)⟩ dX0_step_13 ?_
    intro _ hu13
    refine z_eq (lv₂ := [(0, .ref o), (1, .int p), (2, .int la)]) (st₂ := [.int (bI (lIn p.toInt64 0 (((c 16) - 1).toInt64)))]) ?_ rfl rfl
    refine z_top (bI (mIn p 0 ((c 16) - 1))) (congrArg bI (lIn_eq rfl (by decide) rfl)) ?_
    refine z_if_eq (pc := 16) gX 26 dX0_step_16 (by decide) (fun c16 => ?_) (fun c16 => ?_)
    · skip
      have k16 : (mIn p 0 ((c 16) - 1)) = false := bI_eq0 c16
      refine z_ldc (pc := 26) gX q350 dX0_step_26 ?_
      exact z_rio gX hQX (by simp [mStep, k16]) dX0_step_28
    · skip
      have k16 : (mIn p 0 ((c 16) - 1)) = true := bI_ne0 c16
      refine z_iload_n (pc := 19) gX 2 dX0_step_19 rfl rfl ?_
      refine z_cOS (pc := 20) gX (zIo_ok gX) [.int la] [] [] (met_X0_isHalf l D B0 la ) q961 q962 q47 q963 hd_X0_isHalf ⟨rfl, rfl⟩ ⟨(Nat.le_of_ble_eq_true rfl), (Nat.le_of_ble_eq_true rfl)⟩ rfl rfl rfl (Nat.le_of_ble_eq_true rfl) ⟨(Nat.le_of_ble_eq_true rfl), (Nat.le_of_ble_eq_true rfl)⟩ dX0_step_20 ?_
      intro _ hu20
      refine z_eq (lv₂ := [(0, .ref o), (1, .int p), (2, .int la)]) (st₂ := [.int (bI (mIn la 0 1))]) ?_ rfl rfl
      refine z_if_ne (pc := 23) gX 29 dX0_step_23 (by decide) (fun c23 => ?_) (fun c23 => ?_)
      · skip
        have k23 : (mIn la 0 1) = true := bI_ne0 c23
        refine z_iconst (pc := 29) gX 0 dX0_step_29 (by decide) ?_
        refine z_istore_n (pc := 30) gX [1, 2, 3, 0] [(0, .ref o), (1, .int p), (2, .int la), (3, .int 0)] dX0_step_30 rfl (by decide) rfl ?_
        refine z_iconst (pc := 31) gX 0 dX0_step_31 (by decide) ?_
        refine z_istore (pc := 32) gX [1, 2, 3, 4, 0] [(0, .ref o), (1, .int p), (2, .int la), (3, .int 0), (4, .int 0)] dX0_step_32 (by decide) rfl ?_
        have L34 : ∀ (n34 : Nat) (r : Nat) (v : Int32), (r ≤ n) → (v = orF (stepF c p la) r) → n - r < n34 → zJ pX l eX (zRm 8 0 0) sX mX argsX blX mtX cX QX 5 (zIo D sX [cOb o ad (sa 0) (sb 0) tr x, [(sa 0, .inr (2, [.int (c 16), .int (c 1), .int (c 0), .int wn, .ref (sa 1), .ref (sa 2), .ref (sa 3), .ref (sa 4)]))], [(sa 1, .inr (16, [.int md, .ref d, .int (nI n)]))], [(sa 2, .inl (D.1 100, 7, .inl (fun i_ => c (9 + i_))))], [(sa 3, .inl (D.1 100, 7, .inl (fun i_ => c (2 + i_))))], [(sa 4, .inl (D.1 100, 7, .inl od))], [(d, .inl (D.1 104, 10, .inr (.inr (.inr (.inr (rF ra n))))))], T]) 0 0 34 [(0, .ref o), (1, .int p), (2, .int la), (3, .int v), (4, .int (nI r))] [] := by
          intro n34
          induction n34 with
          | zero => exact fun r v hr hv hm34 => absurd hm34 (Nat.not_lt_zero _)
          | succ n34 ih34 =>
            intro r v hr hv hm34
            refine z_iload (pc := 34) gX 4 dX0_step_34 rfl ?_
            refine z_aload_n (pc := 36) gX 0 dX0_step_36 rfl rfl ?_
            refine z_get (pc := 37) gX (zIo_ok gX) (zm 0 rfl) (ci := 0) (C := RX0) (T := TX0) (N := 14) rfl in_X0 4 (by decide) q213 (fun _ h => h) (v := .ref (sa 0)) rfl dX0_step_37 ?_
            refine z_cOV (pc := 40) gX (zIo_ok gX) [] [.int (nI r)] [1, 2] (met_X2_many l D B0 sa (c 16) (c 1) (c 0) wn md d n ) q820 q653 q654 q49 q655 (zm 1 rfl) (ci := 2) rfl rfl hd_X2_many ⟨rfl, rfl⟩ ⟨(Nat.le_of_ble_eq_true rfl), (Nat.le_of_ble_eq_true rfl)⟩ rfl rfl rfl (Nat.le_of_ble_eq_true rfl) ⟨(Nat.le_of_ble_eq_true rfl), (Nat.le_of_ble_eq_true rfl)⟩ dX0_step_40 ?_
            intro _ hu40
            refine z_eq (lv₂ := [(0, .ref o), (1, .int p), (2, .int la), (3, .int v), (4, .int (nI r))]) (st₂ := [.int (nI n), .int (nI r)]) ?_ rfl rfl
            refine z_icmp_ge (pc := 43) gX 77 dX0_step_43 (by decide) (fun c43 => ?_) (fun c43 => ?_)
            · skip
              have k43 : n ≤ r := (zn_le (a := n) (b := r) (by omega) (by omega)).mp c43
              refine z_iload_n (pc := 77) gX 3 dX0_step_77 rfl rfl ?_
              exact z_rio gX hQX (by rw [hv, show r = n by omega]; simp [mStep, k16, k23]) dX0_step_78
            · skip
              have k43 : r < n := (zn_nle (a := n) (b := r) (by omega) (by omega)).mp c43
              refine z_iload_n (pc := 46) gX 3 dX0_step_46 rfl rfl ?_
              refine z_aload_n (pc := 47) gX 0 dX0_step_47 rfl rfl ?_
              refine z_get (pc := 48) gX (zIo_ok gX) (zm 0 rfl) (ci := 0) (C := RX0) (T := TX0) (N := 14) rfl in_X0 4 (by decide) q213 (fun _ h => h) (v := .ref (sa 0)) rfl dX0_step_48 ?_
              refine z_iload (pc := 51) gX 4 dX0_step_51 rfl ?_
              refine z_iload_n (pc := 53) gX 1 dX0_step_53 rfl rfl ?_
              refine z_iload_n (pc := 54) gX 2 dX0_step_54 rfl rfl ?_
              refine z_cOV (pc := 55) gX (zIo_ok gX) [.int (nI r), .int p, .int la] [.int v] [1, 2, 3, 4, 5, 6, 7] (met_X2_takes l D B0 sa (c 16) (c 1) (c 0) wn md d n (fun i_ => c (9 + i_)) (fun i_ => c (2 + i_)) od ra (fun i_ => c (18 + i_)) T r p la (by first | assumption | omega) (by first | assumption | omega) (by first | assumption | omega)) q977 q873 q874 q49 q875 (zm 1 rfl) (ci := 2) rfl rfl hd_X2_takes ⟨rfl, rfl⟩ ⟨(Nat.le_of_ble_eq_true rfl), (Nat.le_of_ble_eq_true rfl)⟩ rfl rfl rfl (Nat.le_of_ble_eq_true rfl) ⟨(Nat.le_of_ble_eq_true rfl), (Nat.le_of_ble_eq_true rfl)⟩ dX0_step_55 ?_
              intro _ hu55
              refine z_eq (lv₂ := [(0, .ref o), (1, .int p), (2, .int la), (3, .int v), (4, .int (nI r))]) (st₂ := [.int (bI (cTk (fun i_ => c (9 + i_)) (fun i_ => c (2 + i_)) (fun i_ => c (18 + i_)) r p la)), .int v]) ?_ rfl rfl
              refine z_top (bI (decide (c (2 + r) = p) && (decide (4 ≤ c (18 + r)) || decide (c (9 + r) = la)))) (rfl) ?_
              refine z_if_eq (pc := 58) gX 68 dX0_step_58 (by decide) (fun c58 => ?_) (fun c58 => ?_)
              · skip
                have k58 : (decide (c (2 + r) = p) && (decide (4 ≤ c (18 + r)) || decide (c (9 + r) = la))) = false := bI_eq0 c58
                refine z_iconst (pc := 68) gX 0 dX0_step_68 (by decide) ?_
                refine z_ior (pc := 69) gX dX0_step_69 ?_
                refine z_istore_n (pc := 70) gX [1, 2, 3, 0, 4] [(0, .ref o), (1, .int p), (2, .int la), (3, .int (v ||| 0)), (4, .int (nI r))] dX0_step_70 rfl (by decide) rfl ?_
                refine z_iinc (pc := 71) gX 4 (nI (r + 1)) [1, 2, 3, 4, 0] [(0, .ref o), (1, .int p), (2, .int la), (3, .int (v ||| 0)), (4, .int (nI (r + 1)))] dX0_step_71 rfl (nI_1 _) (by decide) rfl ?_
                refine z_goto (pc := 74) gX 34 dX0_step_74 (by decide) ?_
                exact ih34 (r + 1) (v ||| 0) (by omega) (by simp only [orF]; rw [← hv]; simp only [stepF]; rw [if_neg (by simpa using k58)]) (by omega)
              · skip
                have k58 : (decide (c (2 + r) = p) && (decide (4 ≤ c (18 + r)) || decide (c (9 + r) = la))) = true := bI_ne0 c58
                refine z_iconst (pc := 61) gX 1 dX0_step_61 (by decide) ?_
                refine z_iload (pc := 62) gX 4 dX0_step_62 rfl ?_
                refine z_ishl (pc := 64) gX dX0_step_64 ?_
                refine z_goto (pc := 65) gX 69 dX0_step_65 (by decide) ?_
                refine z_ior (pc := 69) gX dX0_step_69 ?_
                refine z_istore_n (pc := 70) gX [1, 2, 3, 0, 4] [(0, .ref o), (1, .int p), (2, .int la), (3, .int (v ||| (1 <<< ((nI r) &&& 31)))), (4, .int (nI r))] dX0_step_70 rfl (by decide) rfl ?_
                refine z_iinc (pc := 71) gX 4 (nI (r + 1)) [1, 2, 3, 4, 0] [(0, .ref o), (1, .int p), (2, .int la), (3, .int (v ||| (1 <<< ((nI r) &&& 31)))), (4, .int (nI (r + 1)))] dX0_step_71 rfl (nI_1 _) (by decide) rfl ?_
                refine z_goto (pc := 74) gX 34 dX0_step_74 (by decide) ?_
                exact ih34 (r + 1) (v ||| (1 <<< ((nI r) &&& 31))) (by omega) (by simp only [orF]; rw [← hv]; simp only [stepF]; rw [if_pos (by simpa using k58)]) (by omega)
        exact L34 ((n - 0) + 1) 0 0 (by omega) rfl (Nat.lt_succ_self _)
      · skip
        have k23 : (mIn la 0 1) = false := bI_eq0 c23
        refine z_ldc (pc := 26) gX q350 dX0_step_26 ?_
        exact z_rio gX hQX (by simp [mStep, k16, k23]) dX0_step_28
theorem hd_X0_step : zHd yX0_step 2 := by unfold zHd; decide +kernel

set_option maxHeartbeats 4000000 in
theorem met_X8_kind (l : Launch) (D : va_G) (B0 : Nat) (v : Nat)  : Met l yX8_kind (ws_ yX8_kind cX8_kind 1 (some .int)) (zRm 1 0 0) (va_Pc [.ref v] (zPreO B0 D [])) (zQo (S := Unit) (fun _ => True) (fun _ => some (.int 1))) 0 0 (fun _ => False) := by
  refine z_entryo (by decide +kernel) (Nat.le_of_ble_eq_true rfl) (fun pX eX sX mX argsX blX mtX cX QX hQX gX => ?_)
  refine z_eq (lv₂ := [(0, .ref v)]) (st₂ := []) ?_ rfl rfl
  refine z_iconst (pc := 0) gX 1 dX8_kind_0 (by decide) ?_
  exact z_rio gX hQX rfl dX8_kind_1
theorem hd_X8_kind : zHd yX8_kind 0 := by unfold zHd; decide +kernel

set_option maxHeartbeats 4000000 in
theorem met_X9_kind (l : Launch) (D : va_G) (B0 : Nat) (v : Nat)  : Met l yX9_kind (ws_ yX9_kind cX9_kind 1 (some .int)) (zRm 1 0 0) (va_Pc [.ref v] (zPreO B0 D [])) (zQo (S := Unit) (fun _ => True) (fun _ => some (.int 2))) 0 0 (fun _ => False) := by
  refine z_entryo (by decide +kernel) (Nat.le_of_ble_eq_true rfl) (fun pX eX sX mX argsX blX mtX cX QX hQX gX => ?_)
  refine z_eq (lv₂ := [(0, .ref v)]) (st₂ := []) ?_ rfl rfl
  refine z_iconst (pc := 0) gX 2 dX9_kind_0 (by decide) ?_
  exact z_rio gX hQX rfl dX9_kind_1
theorem hd_X9_kind : zHd yX9_kind 0 := by unfold zHd; decide +kernel

set_option maxHeartbeats 4000000 in
theorem met_X10_kind (l : Launch) (D : va_G) (B0 : Nat) (v : Nat)  : Met l yX10_kind (ws_ yX10_kind cX10_kind 1 (some .int)) (zRm 1 0 0) (va_Pc [.ref v] (zPreO B0 D [])) (zQo (S := Unit) (fun _ => True) (fun _ => some (.int 3))) 0 0 (fun _ => False) := by
  refine z_entryo (by decide +kernel) (Nat.le_of_ble_eq_true rfl) (fun pX eX sX mX argsX blX mtX cX QX hQX gX => ?_)
  refine z_eq (lv₂ := [(0, .ref v)]) (st₂ := []) ?_ rfl rfl
  refine z_iconst (pc := 0) gX 3 dX10_kind_0 (by decide) ?_
  exact z_rio gX hQX rfl dX10_kind_1
theorem hd_X10_kind : zHd yX10_kind 0 := by unfold zHd; decide +kernel

set_option maxHeartbeats 4000000 in
theorem met_X11_kind (l : Launch) (D : va_G) (B0 : Nat) (v : Nat)  : Met l yX11_kind (ws_ yX11_kind cX11_kind 1 (some .int)) (zRm 1 0 0) (va_Pc [.ref v] (zPreO B0 D [])) (zQo (S := Unit) (fun _ => True) (fun _ => some (.int 4))) 0 0 (fun _ => False) := by
  refine z_entryo (by decide +kernel) (Nat.le_of_ble_eq_true rfl) (fun pX eX sX mX argsX blX mtX cX QX hQX gX => ?_)
  refine z_eq (lv₂ := [(0, .ref v)]) (st₂ := []) ?_ rfl rfl
  refine z_iconst (pc := 0) gX 4 dX11_kind_0 (by decide) ?_
  exact z_rio gX hQX rfl dX11_kind_1
theorem hd_X11_kind : zHd yX11_kind 0 := by unfold zHd; decide +kernel

set_option maxHeartbeats 4000000 in
theorem met_X12_kind (l : Launch) (D : va_G) (B0 : Nat) (v : Nat)  : Met l yX12_kind (ws_ yX12_kind cX12_kind 1 (some .int)) (zRm 1 0 0) (va_Pc [.ref v] (zPreO B0 D [])) (zQo (S := Unit) (fun _ => True) (fun _ => some (.int 5))) 0 0 (fun _ => False) := by
  refine z_entryo (by decide +kernel) (Nat.le_of_ble_eq_true rfl) (fun pX eX sX mX argsX blX mtX cX QX hQX gX => ?_)
  refine z_eq (lv₂ := [(0, .ref v)]) (st₂ := []) ?_ rfl rfl
  refine z_iconst (pc := 0) gX 5 dX12_kind_0 (by decide) ?_
  exact z_rio gX hQX rfl dX12_kind_1
theorem hd_X12_kind : zHd yX12_kind 0 := by unfold zHd; decide +kernel

set_option maxHeartbeats 4000000 in
theorem met_X0_kind (l : Launch) (D : va_G) (B0 : Nat) (o : Nat) (ad : Nat → Nat) (sa : Nat → Nat) (sb : Nat → Nat) (tr : Nat) (x : Nat → Int32) (da : Option Nat) (n : Nat) (ra : Nat → Nat) (md : Int32) (wn : Int32) (od : Nat → Int32) (c : Nat → Int32) (T : va_W) (k : Nat) (r : Int32) (hS : sOK T da n k ra c) : Met l yX0_kind (ws_ yX0_kind cX0_kind 2 (some .int)) (zRm 8 0 0) (va_Pc [.ref o, .int r] (zPreO B0 D [cOb o ad (sa 0) (sb 0) tr x, thP D sa ((da, n, ra), (md, wn, od), c), T])) (zQo (S := Unit) (fun _ => True) (fun _ => some (.int (mKind c r)))) 0 0 (fun _ => False) := by
  refine z_entryo (by decide +kernel) (Nat.le_of_ble_eq_true rfl) (fun pX eX sX mX argsX blX mtX cX QX hQX gX => ?_)
  refine z_eq (lv₂ := [(0, .ref o), (1, .int r)]) (st₂ := []) ?_ rfl rfl
  rcases hS with ⟨rfl, rfl, h16, h17⟩ | ⟨⟨d, rfl⟩, hG⟩
  · skip
    refine z_wso [cOb o ad (sa 0) (sb 0) tr x, [(sa 0, .inr (2, [.int (c 16), .int (c 1), .int (c 0), .int wn, .ref (sa 1), .ref (sa 2), .ref (sa 3), .ref (sa 4)]))], [(sa 1, .inr (16, [.int md, .ref (zEE D), .int (nI 0)]))], [(sa 2, .inl (D.1 100, 7, .inl (fun i_ => c (9 + i_))))], [(sa 3, .inl (D.1 100, 7, .inl (fun i_ => c (2 + i_))))], [(sa 4, .inl (D.1 100, 7, .inl od))], T] (fun _ h => h) ?_
    refine z_aload_n (pc := 0) gX 0 dX0_kind_0 rfl rfl ?_
    refine z_iload_n (pc := 1) gX 1 dX0_kind_1 rfl rfl ?_
    refine z_cOV (pc := 2) gX (zIo_ok gX) [.int r] [] [0, 1, 2] (met_X0_isRider l D B0 o ad sa sb tr x (c 16) (c 1) (c 0) wn md (zEE D) 0 r ) q947 q949 qs22 q47 q950 (zm 0 rfl) (ci := 0) rfl rfl hd_X0_isRider ⟨rfl, rfl⟩ ⟨(Nat.le_of_ble_eq_true rfl), (Nat.le_of_ble_eq_true rfl)⟩ rfl rfl rfl (Nat.le_of_ble_eq_true rfl) ⟨(Nat.le_of_ble_eq_true rfl), (Nat.le_of_ble_eq_true rfl)⟩ dX0_kind_2 ?_
    intro _ hu2
    refine z_eq (lv₂ := [(0, .ref o), (1, .int r)]) (st₂ := [.int (bI (mIn r 0 (nI 0 - 1)))]) ?_ rfl rfl
    refine z_top (bI (mIn r 0 (c 17 - 1))) (congrArg (fun z => bI (mIn r 0 (z - 1))) h17.symm) ?_
    refine z_if_eq (pc := 5) gX 30 dX0_kind_5 (by decide) (fun c5 => ?_) (fun c5 => ?_)
    · skip
      have k5 : (mIn r 0 (c 17 - 1)) = false := bI_eq0 c5
      refine z_ldc (pc := 30) gX q350 dX0_kind_30 ?_
      exact z_rio gX hQX (by simp [mKind, inF h17]) dX0_kind_32
    · skip
      have k5 : (mIn r 0 (c 17 - 1)) = true := bI_ne0 c5
      exact absurd k5 (by rw [inF h17]; decide)
  · skip
    have hK := hG.k
    have hn1 := hG.1
    have hn7 := hG.2.1
    have h17 := hG.2.2.1
    have h16 := hG.2.2.2.1
    have hk4 := hG.2.2.2.2.1
    have hk12 := hG.2.2.2.2.2.1
    have hln := hG.2.2.2.2.2.2.1
    have hR := hG.2.2.2.2.2.2.2
    refine z_wso [cOb o ad (sa 0) (sb 0) tr x, [(sa 0, .inr (2, [.int (c 16), .int (c 1), .int (c 0), .int wn, .ref (sa 1), .ref (sa 2), .ref (sa 3), .ref (sa 4)]))], [(sa 1, .inr (16, [.int md, .ref d, .int (nI n)]))], [(sa 2, .inl (D.1 100, 7, .inl (fun i_ => c (9 + i_))))], [(sa 3, .inl (D.1 100, 7, .inl (fun i_ => c (2 + i_))))], [(sa 4, .inl (D.1 100, 7, .inl od))], [(d, .inl (D.1 104, 10, .inr (.inr (.inr (.inr (rF ra n))))))], T] (fun _ h => h) ?_
    refine z_aload_n (pc := 0) gX 0 dX0_kind_0 rfl rfl ?_
    refine z_iload_n (pc := 1) gX 1 dX0_kind_1 rfl rfl ?_
    refine z_cOV (pc := 2) gX (zIo_ok gX) [.int r] [] [0, 1, 2] (met_X0_isRider l D B0 o ad sa sb tr x (c 16) (c 1) (c 0) wn md d n r ) q947 q949 qs22 q47 q950 (zm 0 rfl) (ci := 0) rfl rfl hd_X0_isRider ⟨rfl, rfl⟩ ⟨(Nat.le_of_ble_eq_true rfl), (Nat.le_of_ble_eq_true rfl)⟩ rfl rfl rfl (Nat.le_of_ble_eq_true rfl) ⟨(Nat.le_of_ble_eq_true rfl), (Nat.le_of_ble_eq_true rfl)⟩ dX0_kind_2 ?_
    intro _ hu2
    refine z_eq (lv₂ := [(0, .ref o), (1, .int r)]) (st₂ := [.int (bI (mIn r 0 (nI n - 1)))]) ?_ rfl rfl
    refine z_top (bI (mIn r 0 (c 17 - 1))) (congrArg (fun z => bI (mIn r 0 (z - 1))) h17.symm) ?_
    refine z_if_eq (pc := 5) gX 30 dX0_kind_5 (by decide) (fun c5 => ?_) (fun c5 => ?_)
    · skip
      have k5 : (mIn r 0 (c 17 - 1)) = false := bI_eq0 c5
      refine z_ldc (pc := 30) gX q350 dX0_kind_30 ?_
      exact z_rio gX hQX (by simp [mKind, k5]) dX0_kind_32
    · skip
      have k5 : (mIn r 0 (c 17 - 1)) = true := bI_ne0 c5
      obtain ⟨j, hj, rfl⟩ := riderN k5 h17 hn7
      refine z_aload_n (pc := 8) gX 0 dX0_kind_8 rfl rfl ?_
      refine z_get (pc := 9) gX (zIo_ok gX) (zm 0 rfl) (ci := 0) (C := RX0) (T := TX0) (N := 14) rfl in_X0 4 (by decide) q213 (fun _ h => h) (v := .ref (sa 0)) rfl dX0_kind_9 ?_
      refine z_get (pc := 12) gX (zIo_ok gX) (zm 1 rfl) (ci := 2) (C := RX2) (T := TX2) (N := 8) rfl in_X2 4 (by decide) q160 (fun _ h => h) (v := .ref (sa 1)) rfl dX0_kind_12 ?_
      refine z_iload_n (pc := 15) gX 1 dX0_kind_15 rfl rfl ?_
      refine z_cOF (n := 1) (pc := 16) gX (zIo_ok gX) [.int (nI j)] [] [2, 6] (met_J2_get l D B0 (sa 1) md d n (rF ra n) j (ra j) (by first | assumption | omega) (by first | assumption | omega) (rF_lt hj)) q1213 q804 q802 q52 (gX.zk.face ⟨by decide +kernel, by decide +kernel⟩ q801 q800 q805 q803 q660) (by unfold zHd; decide +kernel) q806 (zm 2 rfl) (ci := 16) rfl ⟨rfl, rfl⟩ ⟨(Nat.le_of_ble_eq_true rfl), (Nat.le_of_ble_eq_true rfl)⟩ rfl rfl rfl (Nat.le_of_ble_eq_true rfl) ⟨(Nat.le_of_ble_eq_true rfl), (Nat.le_of_ble_eq_true rfl)⟩ dX0_kind_16 ?_
      intro _ hu16
      refine z_eq (lv₂ := [(0, .ref o), (1, .int (nI j))]) (st₂ := [.ref (ra j)]) ?_ rfl rfl
      obtain ⟨k9, hk1, hk5, hkd, hv⟩ := hR j hj
      rcases five hk1 hk5 with rfl | rfl | rfl | rfl | rfl
      · skip
        refine z_castY (pc := 21) gX (zIo_ok gX) (zpm 7 rfl hv) (ci := 7) rfl q1214 (gX.zk.cast q1714) dX0_kind_21 ?_
        refine z_cOU (n := 0) (pc := 24) gX (zIo_ok gX) [] [] [] (met_X8_kind l D B0 (ra j) ) (gX.ts _ q1215) (gX.ts _ q1217) (va_Decl.abs (gX.zk.decl q1216)) q1225 q1224 q73 ⟨by decide +kernel, by decide +kernel, by decide +kernel⟩ q1226 (zpm 7 rfl hv) (ci := 7) rfl ⟨rfl, rfl⟩ ⟨(Nat.le_of_ble_eq_true rfl), (Nat.le_of_ble_eq_true rfl)⟩ rfl rfl rfl (Nat.le_of_ble_eq_true rfl) ⟨(Nat.le_of_ble_eq_true rfl), (Nat.le_of_ble_eq_true rfl)⟩ dX0_kind_24 ?_
        intro _ hu24
        refine z_eq (lv₂ := [(0, .ref o), (1, .int (nI j))]) (st₂ := [.int 1]) ?_ rfl rfl
        refine z_goto (pc := 27) gX 32 dX0_kind_27 (by decide) ?_
        exact z_rio gX hQX (by rw [show mKind c (nI j) = c (18 + j) by simp [mKind, k5, nI_clamp (show j < 2 ^ 31 by omega)]]; exact (show c (18 + j) = nI 1 from hkd).symm) dX0_kind_32
      · skip
        refine z_castY (pc := 21) gX (zIo_ok gX) (zpm 7 rfl hv) (ci := 8) rfl q1214 (gX.zk.cast q1716) dX0_kind_21 ?_
        refine z_cOU (n := 0) (pc := 24) gX (zIo_ok gX) [] [] [] (met_X9_kind l D B0 (ra j) ) (gX.ts _ q1215) (gX.ts _ q1217) (va_Decl.abs (gX.zk.decl q1216)) q1231 q1230 q74 ⟨by decide +kernel, by decide +kernel, by decide +kernel⟩ q1232 (zpm 7 rfl hv) (ci := 8) rfl ⟨rfl, rfl⟩ ⟨(Nat.le_of_ble_eq_true rfl), (Nat.le_of_ble_eq_true rfl)⟩ rfl rfl rfl (Nat.le_of_ble_eq_true rfl) ⟨(Nat.le_of_ble_eq_true rfl), (Nat.le_of_ble_eq_true rfl)⟩ dX0_kind_24 ?_
        intro _ hu24
        refine z_eq (lv₂ := [(0, .ref o), (1, .int (nI j))]) (st₂ := [.int 2]) ?_ rfl rfl
        refine z_goto (pc := 27) gX 32 dX0_kind_27 (by decide) ?_
        exact z_rio gX hQX (by rw [show mKind c (nI j) = c (18 + j) by simp [mKind, k5, nI_clamp (show j < 2 ^ 31 by omega)]]; exact (show c (18 + j) = nI 2 from hkd).symm) dX0_kind_32
      · skip
        refine z_castY (pc := 21) gX (zIo_ok gX) (zpm 7 rfl hv) (ci := 9) rfl q1214 (gX.zk.cast q1713) dX0_kind_21 ?_
        refine z_cOU (n := 0) (pc := 24) gX (zIo_ok gX) [] [] [] (met_X10_kind l D B0 (ra j) ) (gX.ts _ q1215) (gX.ts _ q1217) (va_Decl.abs (gX.zk.decl q1216)) q1222 q1221 q75 ⟨by decide +kernel, by decide +kernel, by decide +kernel⟩ q1223 (zpm 7 rfl hv) (ci := 9) rfl ⟨rfl, rfl⟩ ⟨(Nat.le_of_ble_eq_true rfl), (Nat.le_of_ble_eq_true rfl)⟩ rfl rfl rfl (Nat.le_of_ble_eq_true rfl) ⟨(Nat.le_of_ble_eq_true rfl), (Nat.le_of_ble_eq_true rfl)⟩ dX0_kind_24 ?_
        intro _ hu24
        refine z_eq (lv₂ := [(0, .ref o), (1, .int (nI j))]) (st₂ := [.int 3]) ?_ rfl rfl
        refine z_goto (pc := 27) gX 32 dX0_kind_27 (by decide) ?_
        exact z_rio gX hQX (by rw [show mKind c (nI j) = c (18 + j) by simp [mKind, k5, nI_clamp (show j < 2 ^ 31 by omega)]]; exact (show c (18 + j) = nI 3 from hkd).symm) dX0_kind_32
      · skip
        refine z_castY (pc := 21) gX (zIo_ok gX) (zpm 7 rfl hv) (ci := 10) rfl q1214 (gX.zk.cast q1715) dX0_kind_21 ?_
        refine z_cOU (n := 0) (pc := 24) gX (zIo_ok gX) [] [] [] (met_X11_kind l D B0 (ra j) ) (gX.ts _ q1215) (gX.ts _ q1217) (va_Decl.abs (gX.zk.decl q1216)) q1228 q1227 q76 ⟨by decide +kernel, by decide +kernel, by decide +kernel⟩ q1229 (zpm 7 rfl hv) (ci := 10) rfl ⟨rfl, rfl⟩ ⟨(Nat.le_of_ble_eq_true rfl), (Nat.le_of_ble_eq_true rfl)⟩ rfl rfl rfl (Nat.le_of_ble_eq_true rfl) ⟨(Nat.le_of_ble_eq_true rfl), (Nat.le_of_ble_eq_true rfl)⟩ dX0_kind_24 ?_
        intro _ hu24
        refine z_eq (lv₂ := [(0, .ref o), (1, .int (nI j))]) (st₂ := [.int 4]) ?_ rfl rfl
        refine z_goto (pc := 27) gX 32 dX0_kind_27 (by decide) ?_
        exact z_rio gX hQX (by rw [show mKind c (nI j) = c (18 + j) by simp [mKind, k5, nI_clamp (show j < 2 ^ 31 by omega)]]; exact (show c (18 + j) = nI 4 from hkd).symm) dX0_kind_32
      · skip
        refine z_castY (pc := 21) gX (zIo_ok gX) (zpm 7 rfl hv) (ci := 11) rfl q1214 (gX.zk.cast q1712) dX0_kind_21 ?_
        refine z_cOU (n := 0) (pc := 24) gX (zIo_ok gX) [] [] [] (met_X12_kind l D B0 (ra j) ) (gX.ts _ q1215) (gX.ts _ q1217) (va_Decl.abs (gX.zk.decl q1216)) q1219 q1218 q77 ⟨by decide +kernel, by decide +kernel, by decide +kernel⟩ q1220 (zpm 7 rfl hv) (ci := 11) rfl ⟨rfl, rfl⟩ ⟨(Nat.le_of_ble_eq_true rfl), (Nat.le_of_ble_eq_true rfl)⟩ rfl rfl rfl (Nat.le_of_ble_eq_true rfl) ⟨(Nat.le_of_ble_eq_true rfl), (Nat.le_of_ble_eq_true rfl)⟩ dX0_kind_24 ?_
        intro _ hu24
        refine z_eq (lv₂ := [(0, .ref o), (1, .int (nI j))]) (st₂ := [.int 5]) ?_ rfl rfl
        refine z_goto (pc := 27) gX 32 dX0_kind_27 (by decide) ?_
        exact z_rio gX hQX (by rw [show mKind c (nI j) = c (18 + j) by simp [mKind, k5, nI_clamp (show j < 2 ^ 31 by omega)]]; exact (show c (18 + j) = nI 5 from hkd).symm) dX0_kind_32
theorem hd_X0_kind : zHd yX0_kind 1 := by unfold zHd; decide +kernel

set_option maxHeartbeats 4000000 in
theorem met_X0_status (l : Launch) (D : va_G) (B0 : Nat) (o : Nat) (ad : Nat → Nat) (sa : Nat → Nat) (sb : Nat → Nat) (tr : Nat) (x : Nat → Int32)  : Met l yX0_status (ws_ yX0_status cX0_status 1 (some .int)) (zRm 1 0 0) (va_Pc [.ref o] (zPreO B0 D [cOb o ad (sa 0) (sb 0) tr x])) (zQo (S := Unit) (fun _ => True) (fun _ => some (.int (x 3)))) 0 0 (fun _ => False) := by
  refine z_entryo (by decide +kernel) (Nat.le_of_ble_eq_true rfl) (fun pX eX sX mX argsX blX mtX cX QX hQX gX => ?_)
  refine z_eq (lv₂ := [(0, .ref o)]) (st₂ := []) ?_ rfl rfl
  refine z_aload_n (pc := 0) gX 0 dX0_status_0 rfl rfl ?_
  refine z_get (pc := 1) gX (zIo_ok gX) (zm 0 rfl) (ci := 0) (C := RX0) (T := TX0) (N := 14) rfl in_X0 10 (by decide) q219 (fun _ h => h) (v := .int (x 3)) rfl dX0_status_1 ?_
  exact z_rio gX hQX rfl dX0_status_4
theorem hd_X0_status : zHd yX0_status 0 := by unfold zHd; decide +kernel

set_option maxHeartbeats 4000000 in
theorem met_X0_fault (l : Launch) (D : va_G) (B0 : Nat) (o : Nat) (ad : Nat → Nat) (sa : Nat → Nat) (sb : Nat → Nat) (tr : Nat) (x : Nat → Int32)  : Met l yX0_fault (ws_ yX0_fault cX0_fault 1 (some .int)) (zRm 1 0 0) (va_Pc [.ref o] (zPreO B0 D [cOb o ad (sa 0) (sb 0) tr x])) (zQo (S := Unit) (fun _ => True) (fun _ => some (.int (x 1)))) 0 0 (fun _ => False) := by
  refine z_entryo (by decide +kernel) (Nat.le_of_ble_eq_true rfl) (fun pX eX sX mX argsX blX mtX cX QX hQX gX => ?_)
  refine z_eq (lv₂ := [(0, .ref o)]) (st₂ := []) ?_ rfl rfl
  refine z_aload_n (pc := 0) gX 0 dX0_fault_0 rfl rfl ?_
  refine z_get (pc := 1) gX (zIo_ok gX) (zm 0 rfl) (ci := 0) (C := RX0) (T := TX0) (N := 14) rfl in_X0 3 (by decide) q210 (fun _ h => h) (v := .int (x 1)) rfl dX0_fault_1 ?_
  exact z_rio gX hQX rfl dX0_fault_4
theorem hd_X0_fault : zHd yX0_fault 0 := by unfold zHd; decide +kernel

set_option maxHeartbeats 4000000 in
theorem met_X0_trace (l : Launch) (D : va_G) (B0 : Nat) (o : Nat) (ad : Nat → Nat) (sa : Nat → Nat) (sb : Nat → Nat) (tr : Nat) (x : Nat → Int32) (tb : Nat) (t : Nat) (tf : Nat → Int32) (i : Int32) (ht : t ≤ 16) : Met l yX0_trace (ws_ yX0_trace cX0_trace 2 (some .int)) (zRm 2 0 0) (va_Pc [.ref o, .int i] (zPreO B0 D [cOb o ad (sa 0) (sb 0) tr x, [(tr, .inr (3, [.ref tb, .int (nI t)]))], [(tb, .inl (D.1 100, 16, .inl tf))]])) (zQo (S := Unit) (fun _ => True) (fun _ => some (.int (mTrace t tf i)))) 0 0 (fun _ => False) := by
  refine z_entryo (by decide +kernel) (Nat.le_of_ble_eq_true rfl) (fun pX eX sX mX argsX blX mtX cX QX hQX gX => ?_)
  refine z_eq (lv₂ := [(0, .ref o), (1, .int i)]) (st₂ := []) ?_ rfl rfl
  refine z_iload_n (pc := 0) gX 1 dX0_trace_0 rfl rfl ?_
  refine z_i2l (pc := 1) gX dX0_trace_1 ?_
  refine z_lconst (pc := 2) gX 0 dX0_trace_2 rfl ?_
  refine z_aload_n (pc := 3) gX 0 dX0_trace_3 rfl rfl ?_
  refine z_get (pc := 4) gX (zIo_ok gX) (zm 0 rfl) (ci := 0) (C := RX0) (T := TX0) (N := 14) rfl in_X0 9 (by decide) q218 (fun _ h => h) (v := .ref tr) rfl dX0_trace_4 ?_
  refine z_getN (pc := 7) gX (zIo_ok gX) (zm 1 rfl) (ci := 3) (C := RX3) (T := TX3) (N := 2) rfl in_X3 1 (by decide) (zm 5 rfl) (fun _ h => h) (v := .int (nI t)) rfl dX0_trace_7 ?_
  refine z_iconst (pc := 10) gX 1 dX0_trace_10 (by decide) ?_
  refine z_isub (pc := 11) gX dX0_trace_11 ?_
  refine z_i2l (pc := 12) gX dX0_trace_12 ?_
  refine z_cOS (pc := 13) gX (zIo_ok gX) [.long i.toInt64, .long 0, .long (((nI t) - 1).toInt64)] [] [] (met_X0_isIn l D B0 i.toInt64 0 (((nI t) - 1).toInt64) ) q346 q347 q47 q348 hd_X0_isIn ⟨rfl, rfl⟩ ⟨(Nat.le_of_ble_eq_true rfl), (Nat.le_of_ble_eq_true rfl)⟩ rfl rfl rfl (Nat.le_of_ble_eq_true rfl) ⟨(Nat.le_of_ble_eq_true rfl), (Nat.le_of_ble_eq_true rfl)⟩ dX0_trace_13 ?_
  intro _ hu13
  refine z_eq (lv₂ := [(0, .ref o), (1, .int i)]) (st₂ := [.int (bI (lIn i.toInt64 0 (((nI t) - 1).toInt64)))]) ?_ rfl rfl
  refine z_top (bI (mIn i 0 ((nI t) - 1))) (congrArg bI (lIn_eq rfl (by decide) rfl)) ?_
  refine z_if_eq (pc := 16) gX 31 dX0_trace_16 (by decide) (fun c16 => ?_) (fun c16 => ?_)
  · skip
    have k16 : (mIn i 0 ((nI t) - 1)) = false := bI_eq0 c16
    refine z_ldc (pc := 31) gX q1003 dX0_trace_31 ?_
    exact z_rio gX hQX (by simp [mTrace, k16]) dX0_trace_33
  · skip
    have k16 : (mIn i 0 ((nI t) - 1)) = true := bI_ne0 c16
    obtain ⟨j, hj, rfl⟩ := inN (by omega) k16
    refine z_aload_n (pc := 19) gX 0 dX0_trace_19 rfl rfl ?_
    refine z_get (pc := 20) gX (zIo_ok gX) (zm 0 rfl) (ci := 0) (C := RX0) (T := TX0) (N := 14) rfl in_X0 9 (by decide) q218 (fun _ h => h) (v := .ref tr) rfl dX0_trace_20 ?_
    refine z_getN (pc := 23) gX (zIo_ok gX) (zm 1 rfl) (ci := 3) (C := RX3) (T := TX3) (N := 2) rfl in_X3 0 (by decide) (zm 4 rfl) (fun _ h => h) (v := .ref tb) rfl dX0_trace_23 ?_
    refine z_iload_n (pc := 26) gX 1 dX0_trace_26 rfl rfl ?_
    refine z_iald (pc := 27) gX (zIo_ok gX) (j := j) (n := 16) (f := tf) (zm 2 rfl) (by omega) (by decide) dX0_trace_27 ?_
    refine z_goto (pc := 28) gX 33 dX0_trace_28 (by decide) ?_
    exact z_rio gX hQX (by simp [mTrace, k16, nI_clamp (show j < 2 ^ 31 by omega)]) dX0_trace_33
theorem hd_X0_trace : zHd yX0_trace 1 := by unfold zHd; decide +kernel

theorem feed_eq {xm tp : Nat → Int32} {t j : Nat} (h : xm 1 = nI t) (k9 : mIn (nI j) 0 255 = true) (ht : t < 90) : (nI (t + 1), upd xm 1 (nI (t + 1)), upd tp t (nI j)) = mFeed xm tp (nI j) := by
  simp only [mFeed, k9, if_true, h]
  rw [if_neg (fun e => by have := (zn_eq (a := t) (b := 90) (by omega) (by omega)).mp e; omega), nI_1, nI_clamp (show t < 2 ^ 31 by omega)]
theorem byte_ok : ∀ j : Nat, j ≤ 255 → vp_nar .byte ((nI j).toInt8.toInt32) &&& 255 = nI j := by decide +kernel
theorem feed_ok {xm tp bt : Nat → Int32} {t j : Nat} (h : xm 1 = nI t) (hj : j ≤ 255) (k9 : mIn (nI j) 0 255 = true) (ht : t < 90) (hb : ∀ i, i < t → bt i &&& 255 = tp i) : (nI (t + 1), upd xm 1 (nI (t + 1)), upd tp t (nI j)) = mFeed xm tp (nI j) ∧ (upd xm 1 (nI (t + 1))) 1 = nI (t + 1) ∧ t + 1 ≤ 90 ∧ ∀ i, i < t + 1 → upd bt t (vp_nar .byte ((nI j).toInt8.toInt32)) i &&& 255 = upd tp t (nI j) i := by
  refine ⟨feed_eq h k9 ht, pk_us, by omega, fun i hi => ?_⟩
  rcases (show i < t ∨ i = t by omega) with e | e
  · rw [pk_un (by omega), pk_un (by omega)]; exact hb i e
  · rw [e, pk_us, pk_us]; exact byte_ok j hj

set_option maxHeartbeats 4000000 in
theorem met_X0_feed (l : Launch) (D : va_G) (B0 : Nat) (A : Nat → Prop) (o : Nat) (ad : Nat → Nat) (sa : Nat → Nat) (sb : Nat → Nat) (tr : Nat) (x : Nat → Int32) (bt : Nat → Int32) (xm : Nat → Int32) (tp : Nat → Int32) (t : Nat) (v : Int32) (ht : x 0 = nI t) (ht90 : t ≤ 90) (htm : xm 1 = nI t) (hb : ∀ i, i < t → bt i &&& 255 = tp i) : Met l yX0_feed (ws_ yX0_feed cX0_feed 2 (some .int)) (zRm 2 0 0) (va_Pc [.ref o, .int v] (zPre B0 D A [cOb o ad (sa 0) (sb 0) tr x, [(ad 1, .inl (D.1 101, 90, .inl bt))]])) (zQ (S := Int32 × (Nat → Int32) × (Nat → Int32) × (Nat → Int32) × Nat) (fun u => (fun (r_ : Int32) (xm1 : Nat → Int32) (tp1 : Nat → Int32) (bt1 : Nat → Int32) (t1 : Nat) => (r_, xm1, tp1) = mFeed xm tp v ∧ xm1 1 = nI t1 ∧ t1 ≤ 90 ∧ ∀ i, i < t1 → bt1 i &&& 255 = tp1 i) u.1 u.2.1 u.2.2.1 u.2.2.2.1 u.2.2.2.2) (fun u => (fun (r_ : Int32) (xm1 : Nat → Int32) (tp1 : Nat → Int32) (bt1 : Nat → Int32) (t1 : Nat) => some (.int r_)) u.1 u.2.1 u.2.2.1 u.2.2.2.1 u.2.2.2.2) (fun u => (fun (r_ : Int32) (xm1 : Nat → Int32) (tp1 : Nat → Int32) (bt1 : Nat → Int32) (t1 : Nat) => [cOb o ad (sa 0) (sb 0) tr (upd x 0 (nI t1)), [(ad 1, .inl (D.1 101, 90, .inl bt1))]]) u.1 u.2.1 u.2.2.1 u.2.2.2.1 u.2.2.2.2) D A) 0 0 A := by
  refine z_entry (by decide +kernel) (Nat.le_of_ble_eq_true rfl) (fun pX eX sX mX argsX blX mtX cX QX hQX gX hAX hnm => ?_)
  refine z_eq (lv₂ := [(0, .ref o), (1, .int v)]) (st₂ := []) ?_ rfl rfl
  refine z_iload_n (pc := 0) gX 1 dX0_feed_0 rfl rfl ?_
  refine z_i2l (pc := 1) gX dX0_feed_1 ?_
  refine z_lconst (pc := 2) gX 0 dX0_feed_2 rfl ?_
  refine z_ldc2_w (pc := 3) gX q457 dX0_feed_3 ?_
  refine z_cOS (pc := 6) gX (zI_ok gX hAX) [.long v.toInt64, .long 0, .long 255] [] [] (met_X0_isIn l D B0 v.toInt64 0 255 ) q346 q347 q47 q348 hd_X0_isIn ⟨rfl, rfl⟩ ⟨(Nat.le_of_ble_eq_true rfl), (Nat.le_of_ble_eq_true rfl)⟩ rfl rfl rfl (Nat.le_of_ble_eq_true rfl) ⟨(Nat.le_of_ble_eq_true rfl), (Nat.le_of_ble_eq_true rfl)⟩ dX0_feed_6 ?_
  intro _ hu6
  refine z_eq (lv₂ := [(0, .ref o), (1, .int v)]) (st₂ := [.int (bI (lIn v.toInt64 0 255))]) ?_ rfl rfl
  refine z_top (bI (mIn v 0 255)) (congrArg bI (lIn_eq rfl (by decide) (by decide))) ?_
  refine z_if_ne (pc := 9) gX 15 dX0_feed_9 (by decide) (fun c9 => ?_) (fun c9 => ?_)
  · skip
    have k9 : (mIn v 0 255) = true := bI_ne0 c9
    obtain ⟨j, hj, rfl⟩ := mIn_nat k9 255 (by decide)
    refine z_aload_n (pc := 15) gX 0 dX0_feed_15 rfl rfl ?_
    refine z_get (pc := 16) gX (zI_ok gX hAX) (zm 0 rfl) (ci := 0) (C := RX0) (T := TX0) (N := 14) rfl in_X0 2 (by decide) q209 (fun _ h => h) (v := .int (x 0)) rfl dX0_feed_16 ?_
    refine z_top (nI t) ht ?_
    refine z_bipush (pc := 19) gX 90 dX0_feed_19 (by decide) ?_
    refine z_icmp_ne (pc := 21) gX 27 dX0_feed_21 (by decide) (fun c21 => ?_) (fun c21 => ?_)
    · skip
      have k21 : ¬ t = 90 := fun h => c21 ((zn_eq (a := t) (b := 90) (by omega) (by omega)).mpr h)
      refine z_aload_n (pc := 27) gX 0 dX0_feed_27 rfl rfl ?_
      refine z_get (pc := 28) gX (zI_ok gX hAX) (zm 0 rfl) (ci := 0) (C := RX0) (T := TX0) (N := 14) rfl in_X0 1 (by decide) q208 (fun _ h => h) (v := .ref (ad 1)) rfl dX0_feed_28 ?_
      refine z_aload_n (pc := 31) gX 0 dX0_feed_31 rfl rfl ?_
      refine z_dup (pc := 32) gX dX0_feed_32 rfl ?_
      refine z_get (pc := 33) gX (zI_ok gX hAX) (zm 0 rfl) (ci := 0) (C := RX0) (T := TX0) (N := 14) rfl in_X0 2 (by decide) q209 (fun _ h => h) (v := .int (x 0)) rfl dX0_feed_33 ?_
      refine z_top (nI t) ht ?_
      refine z_dup_x1 (pc := 36) gX dX0_feed_36 rfl rfl ?_
      refine z_iconst (pc := 37) gX 1 dX0_feed_37 (by decide) ?_
      refine z_iadd (pc := 38) gX dX0_feed_38 ?_
      refine z_top (nI (t + 1)) (nI_add t 1) ?_
      refine z_put (pc := 39) gX hAX 0 rfl (ci := 0) (C := RX0) (T := TX0) (N := 14) rfl in_X0 tyX0 tyX0_ok nmX0 2 (by decide) q209 (fun _ h => h) rfl (v := .int (nI (t + 1))) rfl rfl (Nat.le_of_ble_eq_true rfl) [cOb o ad (sa 0) (sb 0) tr (upd x 0 (nI (t + 1))), [(ad 1, .inl (D.1 101, 90, .inl bt))]] rfl dX0_feed_39 ?_
      refine z_iload_n (pc := 42) gX 1 dX0_feed_42 rfl rfl ?_
      refine z_i2b (pc := 43) gX dX0_feed_43 ?_
      refine z_bast (pc := 44) gX hAX 1 (j := t) (n := 90) (f := bt) rfl (by omega) (by decide) [cOb o ad (sa 0) (sb 0) tr (upd x 0 (nI (t + 1))), [(ad 1, .inl (D.1 101, 90, .inl (upd bt t (vp_nar .byte ((nI j).toInt8.toInt32)))))]] rfl dX0_feed_44 ?_
      refine z_aload_n (pc := 45) gX 0 dX0_feed_45 rfl rfl ?_
      refine z_get (pc := 46) gX (zI_ok gX hAX) (zm 0 rfl) (ci := 0) (C := RX0) (T := TX0) (N := 14) rfl in_X0 2 (by decide) q209 (fun _ h => h) (v := .int (nI (t + 1))) rfl dX0_feed_46 ?_
      exact z_rim gX hQX (nI (t + 1), upd xm 1 (nI (t + 1)), upd tp t (nI j), upd bt t (vp_nar .byte ((nI j).toInt8.toInt32)), t + 1) (feed_ok htm hj k9 (by omega) hb) rfl rfl (by first | decide | omega) (by first | decide | omega) dX0_feed_49
    · skip
      have k21 : t = 90 := (zn_eq (a := t) (b := 90) (by omega) (by omega)).mp c21
      refine z_ldc (pc := 24) gX q458 dX0_feed_24 ?_
      exact z_rim gX hQX (-1000003, xm, tp, bt, t) (⟨by simp only [mFeed, k9, htm, k21]; rfl, htm, ht90, hb⟩) rfl (by simp only [show upd x 0 (nI t) = x by rw [← ht]; exact upd_self _ _]) (by first | decide | omega) (by first | decide | omega) dX0_feed_26
  · skip
    have k9 : (mIn v 0 255) = false := bI_eq0 c9
    refine z_ldc (pc := 12) gX q350 dX0_feed_12 ?_
    exact z_rim gX hQX (-1000001, xm, tp, bt, t) (⟨by simp [mFeed, k9], htm, ht90, hb⟩) rfl (by simp only [show upd x 0 (nI t) = x by rw [← ht]; exact upd_self _ _]) (by first | decide | omega) (by first | decide | omega) dX0_feed_14
theorem hd_X0_feed : zHd yX0_feed 1 := by unfold zHd; decide +kernel

