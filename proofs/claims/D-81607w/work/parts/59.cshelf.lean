set_option maxRecDepth 100000
/-! SHELVES: what lies there, read and written; what is thrown -/
theorem nar_b (v : Int32) : vp_nar .byte (v.toInt8.toInt32) = v.toInt8.toInt32 := by simp [vp_nar, narrow]
theorem nar_s (v : Int32) : vp_nar .short (v.toInt16.toInt32) = v.toInt16.toInt32 := by simp [vp_nar, narrow]

set_option maxHeartbeats 4000000 in
theorem met_X1_many_0 (l : Launch) (D : va_G) (B0 : Nat) (q : Nat) (a : Nat) (n : Nat) (f : Nat → Int32) (hn : n ≤ 40) : Met l yX1_many (ws_ yX1_many cX1_many 1 (some .int)) (zRm 1 0 0) (va_Pc [.ref q] (zPreO B0 D [[(q, .inr (1, [.ref a]))], [(a, .inl (D.1 101, n, .inl f))]])) (zQo (S := Unit) (fun _ => True) (fun _ => some (.int (nI n)))) 0 0 (fun _ => False) := by
  refine z_entryo (by decide +kernel) (Nat.le_of_ble_eq_true rfl) (fun pX eX sX mX argsX blX mtX cX QX hQX gX => ?_)
  refine z_eq (lv₂ := [(0, .ref q)]) (st₂ := []) ?_ rfl rfl
  refine z_aload_n (pc := 0) gX 0 dX1_many_0 rfl rfl ?_
  refine z_get (pc := 1) gX (zIo_ok gX) (zm 0 rfl) (ci := 1) (C := RX1) (T := TX1) (N := 1) rfl in_X1 0 (by decide) q106 (fun _ h => h) (v := .ref a) rfl dX1_many_1 ?_
  refine z_instYA (pc := 4) gX (zIo_ok gX) 1 rfl gX.nB q416 dX1_many_4 ?_
  refine z_if_eq (pc := 7) gX 19 dX1_many_7 (by decide) (fun c7 => ?_) (fun c7 => ?_)
  · skip
    exact absurd c7 (by decide)
  · skip
    refine z_aload_n (pc := 10) gX 0 dX1_many_10 rfl rfl ?_
    refine z_get (pc := 11) gX (zIo_ok gX) (zm 0 rfl) (ci := 1) (C := RX1) (T := TX1) (N := 1) rfl in_X1 0 (by decide) q106 (fun _ h => h) (v := .ref a) rfl dX1_many_11 ?_
    refine z_castA (pc := 14) gX (zIo_ok gX) 1 rfl gX.nB q416 dX1_many_14 ?_
    refine z_alen (pc := 17) gX (zIo_ok gX) (zm 1 rfl) 1 rfl dX1_many_17 ?_
    exact z_rio gX hQX rfl dX1_many_18
theorem hd_X1_many : zHd yX1_many 0 := by unfold zHd; decide +kernel

set_option maxHeartbeats 4000000 in
theorem met_X1_at_0 (l : Launch) (D : va_G) (B0 : Nat) (q : Nat) (a : Nat) (n : Nat) (f : Nat → Int32) (j : Nat) (hn : n ≤ 40) (hj : j < n) : Met l yX1_at (ws_ yX1_at cX1_at 2 (some .int)) (zRm 1 0 0) (va_Pc [.ref q, .int (nI j)] (zPreO B0 D [[(q, .inr (1, [.ref a]))], [(a, .inl (D.1 101, n, .inl f))]])) (zQo (S := Unit) (fun _ => True) (fun _ => some (.int (f j)))) 0 0 (fun _ => False) := by
  refine z_entryo (by decide +kernel) (Nat.le_of_ble_eq_true rfl) (fun pX eX sX mX argsX blX mtX cX QX hQX gX => ?_)
  refine z_eq (lv₂ := [(0, .ref q), (1, .int (nI j))]) (st₂ := []) ?_ rfl rfl
  refine z_aload_n (pc := 0) gX 0 dX1_at_0 rfl rfl ?_
  refine z_get (pc := 1) gX (zIo_ok gX) (zm 0 rfl) (ci := 1) (C := RX1) (T := TX1) (N := 1) rfl in_X1 0 (by decide) q106 (fun _ h => h) (v := .ref a) rfl dX1_at_1 ?_
  refine z_instYA (pc := 4) gX (zIo_ok gX) 1 rfl gX.nB q416 dX1_at_4 ?_
  refine z_if_eq (pc := 7) gX 20 dX1_at_7 (by decide) (fun c7 => ?_) (fun c7 => ?_)
  · skip
    exact absurd c7 (by decide)
  · skip
    refine z_aload_n (pc := 10) gX 0 dX1_at_10 rfl rfl ?_
    refine z_get (pc := 11) gX (zIo_ok gX) (zm 0 rfl) (ci := 1) (C := RX1) (T := TX1) (N := 1) rfl in_X1 0 (by decide) q106 (fun _ h => h) (v := .ref a) rfl dX1_at_11 ?_
    refine z_castA (pc := 14) gX (zIo_ok gX) 1 rfl gX.nB q416 dX1_at_14 ?_
    refine z_iload_n (pc := 17) gX 1 dX1_at_17 rfl rfl ?_
    refine z_bald (pc := 18) gX (zIo_ok gX) (j := j) (n := n) (f := f) (zm 1 rfl) (by omega) (by omega) dX1_at_18 ?_
    exact z_rio gX hQX rfl dX1_at_19
theorem hd_X1_at : zHd yX1_at 1 := by unfold zHd; decide +kernel

set_option maxHeartbeats 4000000 in
theorem met_X1_many_1 (l : Launch) (D : va_G) (B0 : Nat) (q : Nat) (a : Nat) (n : Nat) (f : Nat → Int32) (hn : n ≤ 40) : Met l yX1_many (ws_ yX1_many cX1_many 1 (some .int)) (zRm 1 0 0) (va_Pc [.ref q] (zPreO B0 D [[(q, .inr (1, [.ref a]))], [(a, .inl (D.1 102, n, .inl f))]])) (zQo (S := Unit) (fun _ => True) (fun _ => some (.int (nI n)))) 0 0 (fun _ => False) := by
  refine z_entryo (by decide +kernel) (Nat.le_of_ble_eq_true rfl) (fun pX eX sX mX argsX blX mtX cX QX hQX gX => ?_)
  refine z_eq (lv₂ := [(0, .ref q)]) (st₂ := []) ?_ rfl rfl
  refine z_aload_n (pc := 0) gX 0 dX1_many_0 rfl rfl ?_
  refine z_get (pc := 1) gX (zIo_ok gX) (zm 0 rfl) (ci := 1) (C := RX1) (T := TX1) (N := 1) rfl in_X1 0 (by decide) q106 (fun _ h => h) (v := .ref a) rfl dX1_many_1 ?_
  refine z_instNA (pc := 4) gX (zIo_ok gX) 1 rfl gX.nS (gX.zk.nc (fun _ _ h => flat_of_before _ h _ (by decide +kernel))) q416 dX1_many_4 ?_
  refine z_if_eq (pc := 7) gX 19 dX1_many_7 (by decide) (fun c7 => ?_) (fun c7 => ?_)
  · skip
    refine z_aload_n (pc := 19) gX 0 dX1_many_19 rfl rfl ?_
    refine z_get (pc := 20) gX (zIo_ok gX) (zm 0 rfl) (ci := 1) (C := RX1) (T := TX1) (N := 1) rfl in_X1 0 (by decide) q106 (fun _ h => h) (v := .ref a) rfl dX1_many_20 ?_
    refine z_instYA (pc := 23) gX (zIo_ok gX) 1 rfl gX.nS q417 dX1_many_23 ?_
    refine z_if_eq (pc := 26) gX 38 dX1_many_26 (by decide) (fun c26 => ?_) (fun c26 => ?_)
    · skip
      exact absurd c26 (by decide)
    · skip
      refine z_aload_n (pc := 29) gX 0 dX1_many_29 rfl rfl ?_
      refine z_get (pc := 30) gX (zIo_ok gX) (zm 0 rfl) (ci := 1) (C := RX1) (T := TX1) (N := 1) rfl in_X1 0 (by decide) q106 (fun _ h => h) (v := .ref a) rfl dX1_many_30 ?_
      refine z_castA (pc := 33) gX (zIo_ok gX) 1 rfl gX.nS q417 dX1_many_33 ?_
      refine z_alen (pc := 36) gX (zIo_ok gX) (zm 1 rfl) 2 rfl dX1_many_36 ?_
      exact z_rio gX hQX rfl dX1_many_37
  · skip
    exact absurd c7 (by decide)

set_option maxHeartbeats 4000000 in
theorem met_X1_at_1 (l : Launch) (D : va_G) (B0 : Nat) (q : Nat) (a : Nat) (n : Nat) (f : Nat → Int32) (j : Nat) (hn : n ≤ 40) (hj : j < n) : Met l yX1_at (ws_ yX1_at cX1_at 2 (some .int)) (zRm 1 0 0) (va_Pc [.ref q, .int (nI j)] (zPreO B0 D [[(q, .inr (1, [.ref a]))], [(a, .inl (D.1 102, n, .inl f))]])) (zQo (S := Unit) (fun _ => True) (fun _ => some (.int (f j)))) 0 0 (fun _ => False) := by
  refine z_entryo (by decide +kernel) (Nat.le_of_ble_eq_true rfl) (fun pX eX sX mX argsX blX mtX cX QX hQX gX => ?_)
  refine z_eq (lv₂ := [(0, .ref q), (1, .int (nI j))]) (st₂ := []) ?_ rfl rfl
  refine z_aload_n (pc := 0) gX 0 dX1_at_0 rfl rfl ?_
  refine z_get (pc := 1) gX (zIo_ok gX) (zm 0 rfl) (ci := 1) (C := RX1) (T := TX1) (N := 1) rfl in_X1 0 (by decide) q106 (fun _ h => h) (v := .ref a) rfl dX1_at_1 ?_
  refine z_instNA (pc := 4) gX (zIo_ok gX) 1 rfl gX.nS (gX.zk.nc (fun _ _ h => flat_of_before _ h _ (by decide +kernel))) q416 dX1_at_4 ?_
  refine z_if_eq (pc := 7) gX 20 dX1_at_7 (by decide) (fun c7 => ?_) (fun c7 => ?_)
  · skip
    refine z_aload_n (pc := 20) gX 0 dX1_at_20 rfl rfl ?_
    refine z_get (pc := 21) gX (zIo_ok gX) (zm 0 rfl) (ci := 1) (C := RX1) (T := TX1) (N := 1) rfl in_X1 0 (by decide) q106 (fun _ h => h) (v := .ref a) rfl dX1_at_21 ?_
    refine z_instYA (pc := 24) gX (zIo_ok gX) 1 rfl gX.nS q417 dX1_at_24 ?_
    refine z_if_eq (pc := 27) gX 40 dX1_at_27 (by decide) (fun c27 => ?_) (fun c27 => ?_)
    · skip
      exact absurd c27 (by decide)
    · skip
      refine z_aload_n (pc := 30) gX 0 dX1_at_30 rfl rfl ?_
      refine z_get (pc := 31) gX (zIo_ok gX) (zm 0 rfl) (ci := 1) (C := RX1) (T := TX1) (N := 1) rfl in_X1 0 (by decide) q106 (fun _ h => h) (v := .ref a) rfl dX1_at_31 ?_
      refine z_castA (pc := 34) gX (zIo_ok gX) 1 rfl gX.nS q417 dX1_at_34 ?_
      refine z_iload_n (pc := 37) gX 1 dX1_at_37 rfl rfl ?_
      refine z_sald (pc := 38) gX (zIo_ok gX) (j := j) (n := n) (f := f) (zm 1 rfl) (by omega) (by omega) dX1_at_38 ?_
      exact z_rio gX hQX rfl dX1_at_39
  · skip
    exact absurd c7 (by decide)

set_option maxHeartbeats 4000000 in
theorem met_X1_many_2 (l : Launch) (D : va_G) (B0 : Nat) (q : Nat) (a : Nat) (n : Nat) (f : Nat → Int32) (hn : n ≤ 40) : Met l yX1_many (ws_ yX1_many cX1_many 1 (some .int)) (zRm 1 0 0) (va_Pc [.ref q] (zPreO B0 D [[(q, .inr (1, [.ref a]))], [(a, .inl (D.1 100, n, .inl f))]])) (zQo (S := Unit) (fun _ => True) (fun _ => some (.int (nI n)))) 0 0 (fun _ => False) := by
  refine z_entryo (by decide +kernel) (Nat.le_of_ble_eq_true rfl) (fun pX eX sX mX argsX blX mtX cX QX hQX gX => ?_)
  refine z_eq (lv₂ := [(0, .ref q)]) (st₂ := []) ?_ rfl rfl
  refine z_aload_n (pc := 0) gX 0 dX1_many_0 rfl rfl ?_
  refine z_get (pc := 1) gX (zIo_ok gX) (zm 0 rfl) (ci := 1) (C := RX1) (T := TX1) (N := 1) rfl in_X1 0 (by decide) q106 (fun _ h => h) (v := .ref a) rfl dX1_many_1 ?_
  refine z_instNA (pc := 4) gX (zIo_ok gX) 1 rfl gX.nI (gX.zk.nc (fun _ _ h => flat_of_before _ h _ (by decide +kernel))) q416 dX1_many_4 ?_
  refine z_if_eq (pc := 7) gX 19 dX1_many_7 (by decide) (fun c7 => ?_) (fun c7 => ?_)
  · skip
    refine z_aload_n (pc := 19) gX 0 dX1_many_19 rfl rfl ?_
    refine z_get (pc := 20) gX (zIo_ok gX) (zm 0 rfl) (ci := 1) (C := RX1) (T := TX1) (N := 1) rfl in_X1 0 (by decide) q106 (fun _ h => h) (v := .ref a) rfl dX1_many_20 ?_
    refine z_instNA (pc := 23) gX (zIo_ok gX) 1 rfl gX.nI (gX.zk.nc (fun _ _ h => flat_of_before _ h _ (by decide +kernel))) q417 dX1_many_23 ?_
    refine z_if_eq (pc := 26) gX 38 dX1_many_26 (by decide) (fun c26 => ?_) (fun c26 => ?_)
    · skip
      refine z_aload_n (pc := 38) gX 0 dX1_many_38 rfl rfl ?_
      refine z_get (pc := 39) gX (zIo_ok gX) (zm 0 rfl) (ci := 1) (C := RX1) (T := TX1) (N := 1) rfl in_X1 0 (by decide) q106 (fun _ h => h) (v := .ref a) rfl dX1_many_39 ?_
      refine z_castA (pc := 42) gX (zIo_ok gX) 1 rfl gX.nI q418 dX1_many_42 ?_
      refine z_alen (pc := 45) gX (zIo_ok gX) (zm 1 rfl) 0 rfl dX1_many_45 ?_
      exact z_rio gX hQX rfl dX1_many_46
    · skip
      exact absurd c26 (by decide)
  · skip
    exact absurd c7 (by decide)

set_option maxHeartbeats 4000000 in
theorem met_X1_at_2 (l : Launch) (D : va_G) (B0 : Nat) (q : Nat) (a : Nat) (n : Nat) (f : Nat → Int32) (j : Nat) (hn : n ≤ 40) (hj : j < n) : Met l yX1_at (ws_ yX1_at cX1_at 2 (some .int)) (zRm 1 0 0) (va_Pc [.ref q, .int (nI j)] (zPreO B0 D [[(q, .inr (1, [.ref a]))], [(a, .inl (D.1 100, n, .inl f))]])) (zQo (S := Unit) (fun _ => True) (fun _ => some (.int (f j)))) 0 0 (fun _ => False) := by
  refine z_entryo (by decide +kernel) (Nat.le_of_ble_eq_true rfl) (fun pX eX sX mX argsX blX mtX cX QX hQX gX => ?_)
  refine z_eq (lv₂ := [(0, .ref q), (1, .int (nI j))]) (st₂ := []) ?_ rfl rfl
  refine z_aload_n (pc := 0) gX 0 dX1_at_0 rfl rfl ?_
  refine z_get (pc := 1) gX (zIo_ok gX) (zm 0 rfl) (ci := 1) (C := RX1) (T := TX1) (N := 1) rfl in_X1 0 (by decide) q106 (fun _ h => h) (v := .ref a) rfl dX1_at_1 ?_
  refine z_instNA (pc := 4) gX (zIo_ok gX) 1 rfl gX.nI (gX.zk.nc (fun _ _ h => flat_of_before _ h _ (by decide +kernel))) q416 dX1_at_4 ?_
  refine z_if_eq (pc := 7) gX 20 dX1_at_7 (by decide) (fun c7 => ?_) (fun c7 => ?_)
  · skip
    refine z_aload_n (pc := 20) gX 0 dX1_at_20 rfl rfl ?_
    refine z_get (pc := 21) gX (zIo_ok gX) (zm 0 rfl) (ci := 1) (C := RX1) (T := TX1) (N := 1) rfl in_X1 0 (by decide) q106 (fun _ h => h) (v := .ref a) rfl dX1_at_21 ?_
    refine z_instNA (pc := 24) gX (zIo_ok gX) 1 rfl gX.nI (gX.zk.nc (fun _ _ h => flat_of_before _ h _ (by decide +kernel))) q417 dX1_at_24 ?_
    refine z_if_eq (pc := 27) gX 40 dX1_at_27 (by decide) (fun c27 => ?_) (fun c27 => ?_)
    · skip
      refine z_aload_n (pc := 40) gX 0 dX1_at_40 rfl rfl ?_
      refine z_get (pc := 41) gX (zIo_ok gX) (zm 0 rfl) (ci := 1) (C := RX1) (T := TX1) (N := 1) rfl in_X1 0 (by decide) q106 (fun _ h => h) (v := .ref a) rfl dX1_at_41 ?_
      refine z_castA (pc := 44) gX (zIo_ok gX) 1 rfl gX.nI q418 dX1_at_44 ?_
      refine z_iload_n (pc := 47) gX 1 dX1_at_47 rfl rfl ?_
      refine z_iald (pc := 48) gX (zIo_ok gX) (j := j) (n := n) (f := f) (zm 1 rfl) (by omega) (by omega) dX1_at_48 ?_
      exact z_rio gX hQX rfl dX1_at_49
    · skip
      exact absurd c27 (by decide)
  · skip
    exact absurd c7 (by decide)

set_option maxHeartbeats 4000000 in
theorem met_X1_manyN (l : Launch) (D : va_G) (B0 : Nat) (A : Nat → Prop) (q : Nat) (hl : l.stackTraces = false) : vz_Met l yX1_many (ws_ yX1_many cX1_many 1 (some .int)) (zRm 170 1 8) (va_Pc [.ref q] (zPre B0 D A [[(q, .inr (1, [.null]))]])) (zQ (S := Unit) (fun _ => False) (fun _ => none) (fun _ => []) D A) (zXC (S := Unit) (fun q_ E_ => fun _ => E_ = "java/lang/NullPointerException" ∧ True) (fun _ => [[(q, .inr (1, [.null]))]]) D A) 1 8 A := by
  refine z_xentry (by decide +kernel) (Nat.le_of_ble_eq_true rfl) (fun pX eX sX mX argsX blX mtX cX QX hQX gX hAX hnm htX => ?_)
  refine z_eq (lv₂ := [(0, .ref q)]) (st₂ := []) ?_ rfl rfl
  refine z_aload_n (pc := 0) gX 0 dX1_many_0 rfl rfl ?_
  refine z_get (pc := 1) gX (zI_ok gX hAX) (zm 0 rfl) (ci := 1) (C := RX1) (T := TX1) (N := 1) rfl in_X1 0 (by decide) q106 (fun _ h => h) (v := .null) rfl dX1_many_1 ?_
  refine z_instN (pc := 4) gX dX1_many_4 ?_
  refine z_if_eq (pc := 7) gX 19 dX1_many_7 (by decide) (fun c7 => ?_) (fun c7 => ?_)
  · skip
    refine z_aload_n (pc := 19) gX 0 dX1_many_19 rfl rfl ?_
    refine z_get (pc := 20) gX (zI_ok gX hAX) (zm 0 rfl) (ci := 1) (C := RX1) (T := TX1) (N := 1) rfl in_X1 0 (by decide) q106 (fun _ h => h) (v := .null) rfl dX1_many_20 ?_
    refine z_instN (pc := 23) gX dX1_many_23 ?_
    refine z_if_eq (pc := 26) gX 38 dX1_many_26 (by decide) (fun c26 => ?_) (fun c26 => ?_)
    · skip
      refine z_aload_n (pc := 38) gX 0 dX1_many_38 rfl rfl ?_
      refine z_get (pc := 39) gX (zI_ok gX hAX) (zm 0 rfl) (ci := 1) (C := RX1) (T := TX1) (N := 1) rfl in_X1 0 (by decide) q106 (fun _ h => h) (v := .null) rfl dX1_many_39 ?_
      refine z_castN (pc := 42) gX dX1_many_42 ?_
      refine z_alenN (pc := 45) gX hAX hl ⟨by first | decide | (simp only [zRm]; omega), by first | decide | (simp only [zRm]; omega)⟩ ⟨by first | decide | (simp only [zRm]; omega), by first | decide | (simp only [zRm]; omega)⟩ dX1_many_45 ?_
      exact z_xout gX hQX (htX _) (fun _ => ()) (fun _ _ => ⟨rfl, trivial⟩) (fun _ => rfl) (by first | decide | omega) (by first | decide | omega)
    · skip
      exact absurd c26 (by decide)
  · skip
    exact absurd c7 (by decide)

set_option maxHeartbeats 4000000 in
theorem met_X1_atN (l : Launch) (D : va_G) (B0 : Nat) (A : Nat → Prop) (q : Nat) (i : Int32) (hl : l.stackTraces = false) : vz_Met l yX1_at (ws_ yX1_at cX1_at 2 (some .int)) (zRm 170 1 8) (va_Pc [.ref q, .int i] (zPre B0 D A [[(q, .inr (1, [.null]))]])) (zQ (S := Unit) (fun _ => False) (fun _ => none) (fun _ => []) D A) (zXC (S := Unit) (fun q_ E_ => fun _ => E_ = "java/lang/NullPointerException" ∧ True) (fun _ => [[(q, .inr (1, [.null]))]]) D A) 1 8 A := by
  refine z_xentry (by decide +kernel) (Nat.le_of_ble_eq_true rfl) (fun pX eX sX mX argsX blX mtX cX QX hQX gX hAX hnm htX => ?_)
  refine z_eq (lv₂ := [(0, .ref q), (1, .int i)]) (st₂ := []) ?_ rfl rfl
  refine z_aload_n (pc := 0) gX 0 dX1_at_0 rfl rfl ?_
  refine z_get (pc := 1) gX (zI_ok gX hAX) (zm 0 rfl) (ci := 1) (C := RX1) (T := TX1) (N := 1) rfl in_X1 0 (by decide) q106 (fun _ h => h) (v := .null) rfl dX1_at_1 ?_
  refine z_instN (pc := 4) gX dX1_at_4 ?_
  refine z_if_eq (pc := 7) gX 20 dX1_at_7 (by decide) (fun c7 => ?_) (fun c7 => ?_)
  · skip
    refine z_aload_n (pc := 20) gX 0 dX1_at_20 rfl rfl ?_
    refine z_get (pc := 21) gX (zI_ok gX hAX) (zm 0 rfl) (ci := 1) (C := RX1) (T := TX1) (N := 1) rfl in_X1 0 (by decide) q106 (fun _ h => h) (v := .null) rfl dX1_at_21 ?_
    refine z_instN (pc := 24) gX dX1_at_24 ?_
    refine z_if_eq (pc := 27) gX 40 dX1_at_27 (by decide) (fun c27 => ?_) (fun c27 => ?_)
    · skip
      refine z_aload_n (pc := 40) gX 0 dX1_at_40 rfl rfl ?_
      refine z_get (pc := 41) gX (zI_ok gX hAX) (zm 0 rfl) (ci := 1) (C := RX1) (T := TX1) (N := 1) rfl in_X1 0 (by decide) q106 (fun _ h => h) (v := .null) rfl dX1_at_41 ?_
      refine z_castN (pc := 44) gX dX1_at_44 ?_
      refine z_iload_n (pc := 47) gX 1 dX1_at_47 rfl rfl ?_
      refine z_ialdN (pc := 48) gX hAX hl ⟨by first | decide | (simp only [zRm]; omega), by first | decide | (simp only [zRm]; omega)⟩ ⟨by first | decide | (simp only [zRm]; omega), by first | decide | (simp only [zRm]; omega)⟩ dX1_at_48 ?_
      exact z_xout gX hQX (htX _) (fun _ => ()) (fun _ _ => ⟨rfl, trivial⟩) (fun _ => rfl) (by first | decide | omega) (by first | decide | omega)
    · skip
      exact absurd c27 (by decide)
  · skip
    exact absurd c7 (by decide)

set_option maxHeartbeats 4000000 in
theorem met_X1_putN (l : Launch) (D : va_G) (B0 : Nat) (A : Nat → Prop) (q : Nat) (i : Int32) (v : Int32) (hl : l.stackTraces = false) : vz_Met l yX1_put (ws_ yX1_put cX1_put 3 (some .int)) (zRm 170 1 8) (va_Pc [.ref q, .int i, .int v] (zPre B0 D A [[(q, .inr (1, [.null]))]])) (zQ (S := Unit) (fun _ => False) (fun _ => none) (fun _ => []) D A) (zXC (S := Unit) (fun q_ E_ => fun _ => E_ = "java/lang/NullPointerException" ∧ True) (fun _ => [[(q, .inr (1, [.null]))]]) D A) 1 8 A := by
  refine z_xentry (by decide +kernel) (Nat.le_of_ble_eq_true rfl) (fun pX eX sX mX argsX blX mtX cX QX hQX gX hAX hnm htX => ?_)
  refine z_eq (lv₂ := [(0, .ref q), (1, .int i), (2, .int v)]) (st₂ := []) ?_ rfl rfl
  refine z_aload_n (pc := 0) gX 0 dX1_put_0 rfl rfl ?_
  refine z_get (pc := 1) gX (zI_ok gX hAX) (zm 0 rfl) (ci := 1) (C := RX1) (T := TX1) (N := 1) rfl in_X1 0 (by decide) q106 (fun _ h => h) (v := .null) rfl dX1_put_1 ?_
  refine z_instN (pc := 4) gX dX1_put_4 ?_
  refine z_if_eq (pc := 7) gX 24 dX1_put_7 (by decide) (fun c7 => ?_) (fun c7 => ?_)
  · skip
    refine z_aload_n (pc := 24) gX 0 dX1_put_24 rfl rfl ?_
    refine z_get (pc := 25) gX (zI_ok gX hAX) (zm 0 rfl) (ci := 1) (C := RX1) (T := TX1) (N := 1) rfl in_X1 0 (by decide) q106 (fun _ h => h) (v := .null) rfl dX1_put_25 ?_
    refine z_instN (pc := 28) gX dX1_put_28 ?_
    refine z_if_eq (pc := 31) gX 48 dX1_put_31 (by decide) (fun c31 => ?_) (fun c31 => ?_)
    · skip
      refine z_aload_n (pc := 48) gX 0 dX1_put_48 rfl rfl ?_
      refine z_get (pc := 49) gX (zI_ok gX hAX) (zm 0 rfl) (ci := 1) (C := RX1) (T := TX1) (N := 1) rfl in_X1 0 (by decide) q106 (fun _ h => h) (v := .null) rfl dX1_put_49 ?_
      refine z_castN (pc := 52) gX dX1_put_52 ?_
      refine z_iload_n (pc := 55) gX 1 dX1_put_55 rfl rfl ?_
      refine z_iload_n (pc := 56) gX 2 dX1_put_56 rfl rfl ?_
      refine z_iastN (pc := 57) gX hAX hl ⟨by first | decide | (simp only [zRm]; omega), by first | decide | (simp only [zRm]; omega)⟩ ⟨by first | decide | (simp only [zRm]; omega), by first | decide | (simp only [zRm]; omega)⟩ dX1_put_57 ?_
      exact z_xout gX hQX (htX _) (fun _ => ()) (fun _ _ => ⟨rfl, trivial⟩) (fun _ => rfl) (by first | decide | omega) (by first | decide | omega)
    · skip
      exact absurd c31 (by decide)
  · skip
    exact absurd c7 (by decide)
theorem hd_X1_put : zHd yX1_put 2 := by unfold zHd; decide +kernel

set_option maxHeartbeats 4000000 in
theorem met_X1_putZ_0 (l : Launch) (D : va_G) (B0 : Nat) (A : Nat → Prop) (q : Nat) (a : Nat) (n : Nat) (f : Nat → Int32) (i : Int32) (v : Int32) (hl : l.stackTraces = false) (hn : n ≤ 40) (hout : ¬ vp_in i n) : vz_Met l yX1_put (ws_ yX1_put cX1_put 3 (some .int)) (zRm 170 3 222) (va_Pc [.ref q, .int i, .int v] (zPre B0 D A [[(q, .inr (1, [.ref a]))], [(a, .inl (D.1 101, n, .inl f))]])) (zQ (S := Unit) (fun _ => False) (fun _ => none) (fun _ => []) D A) (zXC (S := Unit) (fun q_ E_ => fun _ => E_ = "java/lang/ArrayIndexOutOfBoundsException" ∧ True) (fun _ => [[(q, .inr (1, [.ref a]))], [(a, .inl (D.1 101, n, .inl f))]]) D A) 3 222 A := by
  refine z_xentry (by decide +kernel) (Nat.le_of_ble_eq_true rfl) (fun pX eX sX mX argsX blX mtX cX QX hQX gX hAX hnm htX => ?_)
  refine z_eq (lv₂ := [(0, .ref q), (1, .int i), (2, .int v)]) (st₂ := []) ?_ rfl rfl
  refine z_aload_n (pc := 0) gX 0 dX1_put_0 rfl rfl ?_
  refine z_get (pc := 1) gX (zI_ok gX hAX) (zm 0 rfl) (ci := 1) (C := RX1) (T := TX1) (N := 1) rfl in_X1 0 (by decide) q106 (fun _ h => h) (v := .ref a) rfl dX1_put_1 ?_
  refine z_instYA (pc := 4) gX (zI_ok gX hAX) 1 rfl gX.nB q416 dX1_put_4 ?_
  refine z_if_eq (pc := 7) gX 24 dX1_put_7 (by decide) (fun c7 => ?_) (fun c7 => ?_)
  · skip
    exact absurd c7 (by decide)
  · skip
    refine z_aload_n (pc := 10) gX 0 dX1_put_10 rfl rfl ?_
    refine z_get (pc := 11) gX (zI_ok gX hAX) (zm 0 rfl) (ci := 1) (C := RX1) (T := TX1) (N := 1) rfl in_X1 0 (by decide) q106 (fun _ h => h) (v := .ref a) rfl dX1_put_11 ?_
    refine z_castA (pc := 14) gX (zI_ok gX hAX) 1 rfl gX.nB q416 dX1_put_14 ?_
    refine z_iload_n (pc := 17) gX 1 dX1_put_17 rfl rfl ?_
    refine z_iload_n (pc := 18) gX 2 dX1_put_18 rfl rfl ?_
    refine z_i2b (pc := 19) gX dX1_put_19 ?_
    refine z_bastZ (pc := 20) gX hAX hl ⟨by first | decide | (simp only [zRm]; omega), by first | decide | (simp only [zRm]; omega)⟩ ⟨by first | decide | (simp only [zRm]; omega), by first | decide | (simp only [zRm]; omega)⟩ 1 1 rfl rfl hout (by omega) dX1_put_20 ?_
    exact z_xout gX hQX (htX _) (fun _ => ()) (fun _ _ => ⟨rfl, trivial⟩) (fun _ => rfl) (by first | decide | omega) (by first | decide | omega)

set_option maxHeartbeats 4000000 in
theorem met_X1_put_0 (l : Launch) (D : va_G) (B0 : Nat) (A : Nat → Prop) (q : Nat) (a : Nat) (n : Nat) (f : Nat → Int32) (j : Nat) (v : Int32) (hn : n ≤ 40) (hj : j < n) : Met l yX1_put (ws_ yX1_put cX1_put 3 (some .int)) (zRm 3 0 0) (va_Pc [.ref q, .int (nI j), .int v] (zPre B0 D A [[(q, .inr (1, [.ref a]))], [(a, .inl (D.1 101, n, .inl f))]])) (zQ (S := Unit) (fun _ => True) (fun _ => some (.int (mCut 0 v))) (fun _ => [[(q, .inr (1, [.ref a]))], [(a, .inl (D.1 101, n, .inl (upd f j (mCut 0 v))))]]) D A) 0 0 A := by
  refine z_entry (by decide +kernel) (Nat.le_of_ble_eq_true rfl) (fun pX eX sX mX argsX blX mtX cX QX hQX gX hAX hnm => ?_)
  refine z_eq (lv₂ := [(0, .ref q), (1, .int (nI j)), (2, .int v)]) (st₂ := []) ?_ rfl rfl
  refine z_aload_n (pc := 0) gX 0 dX1_put_0 rfl rfl ?_
  refine z_get (pc := 1) gX (zI_ok gX hAX) (zm 0 rfl) (ci := 1) (C := RX1) (T := TX1) (N := 1) rfl in_X1 0 (by decide) q106 (fun _ h => h) (v := .ref a) rfl dX1_put_1 ?_
  refine z_instYA (pc := 4) gX (zI_ok gX hAX) 1 rfl gX.nB q416 dX1_put_4 ?_
  refine z_if_eq (pc := 7) gX 24 dX1_put_7 (by decide) (fun c7 => ?_) (fun c7 => ?_)
  · skip
    exact absurd c7 (by decide)
  · skip
    refine z_aload_n (pc := 10) gX 0 dX1_put_10 rfl rfl ?_
    refine z_get (pc := 11) gX (zI_ok gX hAX) (zm 0 rfl) (ci := 1) (C := RX1) (T := TX1) (N := 1) rfl in_X1 0 (by decide) q106 (fun _ h => h) (v := .ref a) rfl dX1_put_11 ?_
    refine z_castA (pc := 14) gX (zI_ok gX hAX) 1 rfl gX.nB q416 dX1_put_14 ?_
    refine z_iload_n (pc := 17) gX 1 dX1_put_17 rfl rfl ?_
    refine z_iload_n (pc := 18) gX 2 dX1_put_18 rfl rfl ?_
    refine z_i2b (pc := 19) gX dX1_put_19 ?_
    refine z_bast (pc := 20) gX hAX 1 (j := j) (n := n) (f := f) rfl (by omega) (by omega) [[(q, .inr (1, [.ref a]))], [(a, .inl (D.1 101, n, .inl (upd f j (vp_nar .byte v.toInt8.toInt32))))]] rfl dX1_put_20 ?_
    refine z_goto (pc := 21) gX 58 dX1_put_21 (by decide) ?_
    refine z_aload_n (pc := 58) gX 0 dX1_put_58 rfl rfl ?_
    refine z_iload_n (pc := 59) gX 1 dX1_put_59 rfl rfl ?_
    refine z_cOV (pc := 60) gX (zI_ok gX hAX) [.int (nI j)] [] [0, 1] (met_X1_at_0 l D B0 q a n (upd f j (vp_nar .byte v.toInt8.toInt32)) j (by first | assumption | omega) (by first | assumption | omega)) q419 q421 qs5 q48 q422 (zm 0 rfl) (ci := 1) rfl rfl hd_X1_at ⟨rfl, rfl⟩ ⟨(Nat.le_of_ble_eq_true rfl), (Nat.le_of_ble_eq_true rfl)⟩ rfl rfl rfl (Nat.le_of_ble_eq_true rfl) ⟨(Nat.le_of_ble_eq_true rfl), (Nat.le_of_ble_eq_true rfl)⟩ dX1_put_60 ?_
    intro _ hu60
    refine z_eq (lv₂ := [(0, .ref q), (1, .int (nI j)), (2, .int v)]) (st₂ := [.int ((upd f j (vp_nar .byte v.toInt8.toInt32)) j)]) ?_ rfl rfl
    exact z_rim gX hQX () trivial (zsv (by rw [pk_us, nar_b]; rfl)) (by rw [nar_b]; rfl) (by first | decide | omega) (by first | decide | omega) dX1_put_63

set_option maxHeartbeats 4000000 in
theorem met_X1_putZ_1 (l : Launch) (D : va_G) (B0 : Nat) (A : Nat → Prop) (q : Nat) (a : Nat) (n : Nat) (f : Nat → Int32) (i : Int32) (v : Int32) (hl : l.stackTraces = false) (hn : n ≤ 40) (hout : ¬ vp_in i n) : vz_Met l yX1_put (ws_ yX1_put cX1_put 3 (some .int)) (zRm 170 3 222) (va_Pc [.ref q, .int i, .int v] (zPre B0 D A [[(q, .inr (1, [.ref a]))], [(a, .inl (D.1 102, n, .inl f))]])) (zQ (S := Unit) (fun _ => False) (fun _ => none) (fun _ => []) D A) (zXC (S := Unit) (fun q_ E_ => fun _ => E_ = "java/lang/ArrayIndexOutOfBoundsException" ∧ True) (fun _ => [[(q, .inr (1, [.ref a]))], [(a, .inl (D.1 102, n, .inl f))]]) D A) 3 222 A := by
  refine z_xentry (by decide +kernel) (Nat.le_of_ble_eq_true rfl) (fun pX eX sX mX argsX blX mtX cX QX hQX gX hAX hnm htX => ?_)
  refine z_eq (lv₂ := [(0, .ref q), (1, .int i), (2, .int v)]) (st₂ := []) ?_ rfl rfl
  refine z_aload_n (pc := 0) gX 0 dX1_put_0 rfl rfl ?_
  refine z_get (pc := 1) gX (zI_ok gX hAX) (zm 0 rfl) (ci := 1) (C := RX1) (T := TX1) (N := 1) rfl in_X1 0 (by decide) q106 (fun _ h => h) (v := .ref a) rfl dX1_put_1 ?_
  refine z_instNA (pc := 4) gX (zI_ok gX hAX) 1 rfl gX.nS (gX.zk.nc (fun _ _ h => flat_of_before _ h _ (by decide +kernel))) q416 dX1_put_4 ?_
  refine z_if_eq (pc := 7) gX 24 dX1_put_7 (by decide) (fun c7 => ?_) (fun c7 => ?_)
  · skip
    refine z_aload_n (pc := 24) gX 0 dX1_put_24 rfl rfl ?_
    refine z_get (pc := 25) gX (zI_ok gX hAX) (zm 0 rfl) (ci := 1) (C := RX1) (T := TX1) (N := 1) rfl in_X1 0 (by decide) q106 (fun _ h => h) (v := .ref a) rfl dX1_put_25 ?_
    refine z_instYA (pc := 28) gX (zI_ok gX hAX) 1 rfl gX.nS q417 dX1_put_28 ?_
    refine z_if_eq (pc := 31) gX 48 dX1_put_31 (by decide) (fun c31 => ?_) (fun c31 => ?_)
    · skip
      exact absurd c31 (by decide)
    · skip
      refine z_aload_n (pc := 34) gX 0 dX1_put_34 rfl rfl ?_
      refine z_get (pc := 35) gX (zI_ok gX hAX) (zm 0 rfl) (ci := 1) (C := RX1) (T := TX1) (N := 1) rfl in_X1 0 (by decide) q106 (fun _ h => h) (v := .ref a) rfl dX1_put_35 ?_
      refine z_castA (pc := 38) gX (zI_ok gX hAX) 1 rfl gX.nS q417 dX1_put_38 ?_
      refine z_iload_n (pc := 41) gX 1 dX1_put_41 rfl rfl ?_
      refine z_iload_n (pc := 42) gX 2 dX1_put_42 rfl rfl ?_
      refine z_i2s (pc := 43) gX dX1_put_43 ?_
      refine z_sastZ (pc := 44) gX hAX hl ⟨by first | decide | (simp only [zRm]; omega), by first | decide | (simp only [zRm]; omega)⟩ ⟨by first | decide | (simp only [zRm]; omega), by first | decide | (simp only [zRm]; omega)⟩ 1 2 rfl rfl hout (by omega) dX1_put_44 ?_
      exact z_xout gX hQX (htX _) (fun _ => ()) (fun _ _ => ⟨rfl, trivial⟩) (fun _ => rfl) (by first | decide | omega) (by first | decide | omega)
  · skip
    exact absurd c7 (by decide)

set_option maxHeartbeats 4000000 in
theorem met_X1_put_1 (l : Launch) (D : va_G) (B0 : Nat) (A : Nat → Prop) (q : Nat) (a : Nat) (n : Nat) (f : Nat → Int32) (j : Nat) (v : Int32) (hn : n ≤ 40) (hj : j < n) : Met l yX1_put (ws_ yX1_put cX1_put 3 (some .int)) (zRm 3 0 0) (va_Pc [.ref q, .int (nI j), .int v] (zPre B0 D A [[(q, .inr (1, [.ref a]))], [(a, .inl (D.1 102, n, .inl f))]])) (zQ (S := Unit) (fun _ => True) (fun _ => some (.int (mCut 1 v))) (fun _ => [[(q, .inr (1, [.ref a]))], [(a, .inl (D.1 102, n, .inl (upd f j (mCut 1 v))))]]) D A) 0 0 A := by
  refine z_entry (by decide +kernel) (Nat.le_of_ble_eq_true rfl) (fun pX eX sX mX argsX blX mtX cX QX hQX gX hAX hnm => ?_)
  refine z_eq (lv₂ := [(0, .ref q), (1, .int (nI j)), (2, .int v)]) (st₂ := []) ?_ rfl rfl
  refine z_aload_n (pc := 0) gX 0 dX1_put_0 rfl rfl ?_
  refine z_get (pc := 1) gX (zI_ok gX hAX) (zm 0 rfl) (ci := 1) (C := RX1) (T := TX1) (N := 1) rfl in_X1 0 (by decide) q106 (fun _ h => h) (v := .ref a) rfl dX1_put_1 ?_
  refine z_instNA (pc := 4) gX (zI_ok gX hAX) 1 rfl gX.nS (gX.zk.nc (fun _ _ h => flat_of_before _ h _ (by decide +kernel))) q416 dX1_put_4 ?_
  refine z_if_eq (pc := 7) gX 24 dX1_put_7 (by decide) (fun c7 => ?_) (fun c7 => ?_)
  · skip
    refine z_aload_n (pc := 24) gX 0 dX1_put_24 rfl rfl ?_
    refine z_get (pc := 25) gX (zI_ok gX hAX) (zm 0 rfl) (ci := 1) (C := RX1) (T := TX1) (N := 1) rfl in_X1 0 (by decide) q106 (fun _ h => h) (v := .ref a) rfl dX1_put_25 ?_
    refine z_instYA (pc := 28) gX (zI_ok gX hAX) 1 rfl gX.nS q417 dX1_put_28 ?_
    refine z_if_eq (pc := 31) gX 48 dX1_put_31 (by decide) (fun c31 => ?_) (fun c31 => ?_)
    · skip
      exact absurd c31 (by decide)
    · skip
      refine z_aload_n (pc := 34) gX 0 dX1_put_34 rfl rfl ?_
      refine z_get (pc := 35) gX (zI_ok gX hAX) (zm 0 rfl) (ci := 1) (C := RX1) (T := TX1) (N := 1) rfl in_X1 0 (by decide) q106 (fun _ h => h) (v := .ref a) rfl dX1_put_35 ?_
      refine z_castA (pc := 38) gX (zI_ok gX hAX) 1 rfl gX.nS q417 dX1_put_38 ?_
      refine z_iload_n (pc := 41) gX 1 dX1_put_41 rfl rfl ?_
      refine z_iload_n (pc := 42) gX 2 dX1_put_42 rfl rfl ?_
      refine z_i2s (pc := 43) gX dX1_put_43 ?_
      refine z_sast (pc := 44) gX hAX 1 (j := j) (n := n) (f := f) rfl (by omega) (by omega) [[(q, .inr (1, [.ref a]))], [(a, .inl (D.1 102, n, .inl (upd f j (vp_nar .short v.toInt16.toInt32))))]] rfl dX1_put_44 ?_
      refine z_goto (pc := 45) gX 58 dX1_put_45 (by decide) ?_
      refine z_aload_n (pc := 58) gX 0 dX1_put_58 rfl rfl ?_
      refine z_iload_n (pc := 59) gX 1 dX1_put_59 rfl rfl ?_
      refine z_cOV (pc := 60) gX (zI_ok gX hAX) [.int (nI j)] [] [0, 1] (met_X1_at_1 l D B0 q a n (upd f j (vp_nar .short v.toInt16.toInt32)) j (by first | assumption | omega) (by first | assumption | omega)) q419 q421 qs5 q48 q422 (zm 0 rfl) (ci := 1) rfl rfl hd_X1_at ⟨rfl, rfl⟩ ⟨(Nat.le_of_ble_eq_true rfl), (Nat.le_of_ble_eq_true rfl)⟩ rfl rfl rfl (Nat.le_of_ble_eq_true rfl) ⟨(Nat.le_of_ble_eq_true rfl), (Nat.le_of_ble_eq_true rfl)⟩ dX1_put_60 ?_
      intro _ hu60
      refine z_eq (lv₂ := [(0, .ref q), (1, .int (nI j)), (2, .int v)]) (st₂ := [.int ((upd f j (vp_nar .short v.toInt16.toInt32)) j)]) ?_ rfl rfl
      exact z_rim gX hQX () trivial (zsv (by rw [pk_us, nar_s]; rfl)) (by rw [nar_s]; rfl) (by first | decide | omega) (by first | decide | omega) dX1_put_63
  · skip
    exact absurd c7 (by decide)

set_option maxHeartbeats 4000000 in
theorem met_X1_putZ_2 (l : Launch) (D : va_G) (B0 : Nat) (A : Nat → Prop) (q : Nat) (a : Nat) (n : Nat) (f : Nat → Int32) (i : Int32) (v : Int32) (hl : l.stackTraces = false) (hn : n ≤ 40) (hout : ¬ vp_in i n) : vz_Met l yX1_put (ws_ yX1_put cX1_put 3 (some .int)) (zRm 170 3 222) (va_Pc [.ref q, .int i, .int v] (zPre B0 D A [[(q, .inr (1, [.ref a]))], [(a, .inl (D.1 100, n, .inl f))]])) (zQ (S := Unit) (fun _ => False) (fun _ => none) (fun _ => []) D A) (zXC (S := Unit) (fun q_ E_ => fun _ => E_ = "java/lang/ArrayIndexOutOfBoundsException" ∧ True) (fun _ => [[(q, .inr (1, [.ref a]))], [(a, .inl (D.1 100, n, .inl f))]]) D A) 3 222 A := by
  refine z_xentry (by decide +kernel) (Nat.le_of_ble_eq_true rfl) (fun pX eX sX mX argsX blX mtX cX QX hQX gX hAX hnm htX => ?_)
  refine z_eq (lv₂ := [(0, .ref q), (1, .int i), (2, .int v)]) (st₂ := []) ?_ rfl rfl
  refine z_aload_n (pc := 0) gX 0 dX1_put_0 rfl rfl ?_
  refine z_get (pc := 1) gX (zI_ok gX hAX) (zm 0 rfl) (ci := 1) (C := RX1) (T := TX1) (N := 1) rfl in_X1 0 (by decide) q106 (fun _ h => h) (v := .ref a) rfl dX1_put_1 ?_
  refine z_instNA (pc := 4) gX (zI_ok gX hAX) 1 rfl gX.nI (gX.zk.nc (fun _ _ h => flat_of_before _ h _ (by decide +kernel))) q416 dX1_put_4 ?_
  refine z_if_eq (pc := 7) gX 24 dX1_put_7 (by decide) (fun c7 => ?_) (fun c7 => ?_)
  · skip
    refine z_aload_n (pc := 24) gX 0 dX1_put_24 rfl rfl ?_
    refine z_get (pc := 25) gX (zI_ok gX hAX) (zm 0 rfl) (ci := 1) (C := RX1) (T := TX1) (N := 1) rfl in_X1 0 (by decide) q106 (fun _ h => h) (v := .ref a) rfl dX1_put_25 ?_
    refine z_instNA (pc := 28) gX (zI_ok gX hAX) 1 rfl gX.nI (gX.zk.nc (fun _ _ h => flat_of_before _ h _ (by decide +kernel))) q417 dX1_put_28 ?_
    refine z_if_eq (pc := 31) gX 48 dX1_put_31 (by decide) (fun c31 => ?_) (fun c31 => ?_)
    · skip
      refine z_aload_n (pc := 48) gX 0 dX1_put_48 rfl rfl ?_
      refine z_get (pc := 49) gX (zI_ok gX hAX) (zm 0 rfl) (ci := 1) (C := RX1) (T := TX1) (N := 1) rfl in_X1 0 (by decide) q106 (fun _ h => h) (v := .ref a) rfl dX1_put_49 ?_
      refine z_castA (pc := 52) gX (zI_ok gX hAX) 1 rfl gX.nI q418 dX1_put_52 ?_
      refine z_iload_n (pc := 55) gX 1 dX1_put_55 rfl rfl ?_
      refine z_iload_n (pc := 56) gX 2 dX1_put_56 rfl rfl ?_
      refine z_iastZ (pc := 57) gX hAX hl ⟨by first | decide | (simp only [zRm]; omega), by first | decide | (simp only [zRm]; omega)⟩ ⟨by first | decide | (simp only [zRm]; omega), by first | decide | (simp only [zRm]; omega)⟩ 1 0 rfl rfl hout (by omega) dX1_put_57 ?_
      exact z_xout gX hQX (htX _) (fun _ => ()) (fun _ _ => ⟨rfl, trivial⟩) (fun _ => rfl) (by first | decide | omega) (by first | decide | omega)
    · skip
      exact absurd c31 (by decide)
  · skip
    exact absurd c7 (by decide)

set_option maxHeartbeats 4000000 in
theorem met_X1_put_2 (l : Launch) (D : va_G) (B0 : Nat) (A : Nat → Prop) (q : Nat) (a : Nat) (n : Nat) (f : Nat → Int32) (j : Nat) (v : Int32) (hn : n ≤ 40) (hj : j < n) : Met l yX1_put (ws_ yX1_put cX1_put 3 (some .int)) (zRm 3 0 0) (va_Pc [.ref q, .int (nI j), .int v] (zPre B0 D A [[(q, .inr (1, [.ref a]))], [(a, .inl (D.1 100, n, .inl f))]])) (zQ (S := Unit) (fun _ => True) (fun _ => some (.int (mCut 2 v))) (fun _ => [[(q, .inr (1, [.ref a]))], [(a, .inl (D.1 100, n, .inl (upd f j (mCut 2 v))))]]) D A) 0 0 A := by
  refine z_entry (by decide +kernel) (Nat.le_of_ble_eq_true rfl) (fun pX eX sX mX argsX blX mtX cX QX hQX gX hAX hnm => ?_)
  refine z_eq (lv₂ := [(0, .ref q), (1, .int (nI j)), (2, .int v)]) (st₂ := []) ?_ rfl rfl
  refine z_aload_n (pc := 0) gX 0 dX1_put_0 rfl rfl ?_
  refine z_get (pc := 1) gX (zI_ok gX hAX) (zm 0 rfl) (ci := 1) (C := RX1) (T := TX1) (N := 1) rfl in_X1 0 (by decide) q106 (fun _ h => h) (v := .ref a) rfl dX1_put_1 ?_
  refine z_instNA (pc := 4) gX (zI_ok gX hAX) 1 rfl gX.nI (gX.zk.nc (fun _ _ h => flat_of_before _ h _ (by decide +kernel))) q416 dX1_put_4 ?_
  refine z_if_eq (pc := 7) gX 24 dX1_put_7 (by decide) (fun c7 => ?_) (fun c7 => ?_)
  · skip
    refine z_aload_n (pc := 24) gX 0 dX1_put_24 rfl rfl ?_
    refine z_get (pc := 25) gX (zI_ok gX hAX) (zm 0 rfl) (ci := 1) (C := RX1) (T := TX1) (N := 1) rfl in_X1 0 (by decide) q106 (fun _ h => h) (v := .ref a) rfl dX1_put_25 ?_
    refine z_instNA (pc := 28) gX (zI_ok gX hAX) 1 rfl gX.nI (gX.zk.nc (fun _ _ h => flat_of_before _ h _ (by decide +kernel))) q417 dX1_put_28 ?_
    refine z_if_eq (pc := 31) gX 48 dX1_put_31 (by decide) (fun c31 => ?_) (fun c31 => ?_)
    · skip
      refine z_aload_n (pc := 48) gX 0 dX1_put_48 rfl rfl ?_
      refine z_get (pc := 49) gX (zI_ok gX hAX) (zm 0 rfl) (ci := 1) (C := RX1) (T := TX1) (N := 1) rfl in_X1 0 (by decide) q106 (fun _ h => h) (v := .ref a) rfl dX1_put_49 ?_
      refine z_castA (pc := 52) gX (zI_ok gX hAX) 1 rfl gX.nI q418 dX1_put_52 ?_
      refine z_iload_n (pc := 55) gX 1 dX1_put_55 rfl rfl ?_
      refine z_iload_n (pc := 56) gX 2 dX1_put_56 rfl rfl ?_
      refine z_iast (pc := 57) gX hAX 1 (j := j) (n := n) (f := f) rfl (by omega) (by omega) [[(q, .inr (1, [.ref a]))], [(a, .inl (D.1 100, n, .inl (upd f j v)))]] rfl dX1_put_57 ?_
      refine z_aload_n (pc := 58) gX 0 dX1_put_58 rfl rfl ?_
      refine z_iload_n (pc := 59) gX 1 dX1_put_59 rfl rfl ?_
      refine z_cOV (pc := 60) gX (zI_ok gX hAX) [.int (nI j)] [] [0, 1] (met_X1_at_2 l D B0 q a n (upd f j v) j (by first | assumption | omega) (by first | assumption | omega)) q419 q421 qs5 q48 q422 (zm 0 rfl) (ci := 1) rfl rfl hd_X1_at ⟨rfl, rfl⟩ ⟨(Nat.le_of_ble_eq_true rfl), (Nat.le_of_ble_eq_true rfl)⟩ rfl rfl rfl (Nat.le_of_ble_eq_true rfl) ⟨(Nat.le_of_ble_eq_true rfl), (Nat.le_of_ble_eq_true rfl)⟩ dX1_put_60 ?_
      intro _ hu60
      refine z_eq (lv₂ := [(0, .ref q), (1, .int (nI j)), (2, .int v)]) (st₂ := [.int ((upd f j v) j)]) ?_ rfl rfl
      exact z_rim gX hQX () trivial (zsv (by rw [pk_us]; rfl)) rfl (by first | decide | omega) (by first | decide | omega) dX1_put_63
    · skip
      exact absurd c31 (by decide)
  · skip
    exact absurd c7 (by decide)

set_option maxHeartbeats 4000000 in
theorem met_X0_newLane_0 (l : Launch) (D : va_G) (B0 : Nat) (A : Nat → Prop) (n : Nat) (hn : n ≤ 40) : Met l yX0_newLane (ws_ yX0_newLane cX0_newLane 2 (some (.object "java/lang/Object"))) (zRm 2 1 40) (va_Pc [.int 0, .int (nI n)] (zPre B0 D A [])) (zQ (S := Nat) (fun u => (fun (q : Nat) => True) u) (fun u => (fun (q : Nat) => some (.ref q)) u) (fun u => (fun (q : Nat) => [[(q, .inl (D.1 101, n, .inl (fun _ => 0)))]]) u) D A) 1 40 A := by
  refine z_entry (by decide +kernel) (Nat.le_of_ble_eq_true rfl) (fun pX eX sX mX argsX blX mtX cX QX hQX gX hAX hnm => ?_)
  refine z_eq (lv₂ := [(0, .int 0), (1, .int (nI n))]) (st₂ := []) ?_ rfl rfl
  refine z_iload_n (pc := 0) gX 0 dX0_newLane_0 rfl rfl ?_
  refine z_if_ne (pc := 1) gX 10 dX0_newLane_1 (by decide) (fun c1 => ?_) (fun c1 => ?_)
  · skip
    exact absurd c1 (by decide)
  · skip
    refine z_iload_n (pc := 4) gX 1 dX0_newLane_4 rfl rfl ?_
    refine z_newa (pc := 5) gX hAX (atype := .byte) (ty := .byte) 1 rfl rfl (by intro C h; cases h) q143 (n, .inl (fun _ => 0)) (fun _ => rfl) (by first | decide | omega | (simp only [componentBytes]; omega)) (by first | decide | omega | (simp only [componentBytes]; omega)) (by first | decide | (simp only [zRm]; omega)) (by first | decide | (simp only [zRm]; omega)) dX0_newLane_5 (fun q5 => ?_)
    refine z_norm [[(q5, .inl (D.1 101, n, .inl (fun _ => 0)))]] 1 n ?_ rfl (by first | rfl | omega) (by first | rfl | omega)
    refine z_goto (pc := 7) gX 24 dX0_newLane_7 (by decide) ?_
    exact z_aret gX hQX (by first | exact Or.inl ⟨_, rfl⟩ | exact Or.inr ⟨_, rfl⟩) (Or.inr ⟨_, rfl⟩) q5 trivial rfl rfl (by first | decide | omega) (by first | decide | omega) dX0_newLane_24
theorem hd_X0_newLane : zHd yX0_newLane 2 := by unfold zHd; decide +kernel

set_option maxHeartbeats 4000000 in
theorem met_X0_newLane_1 (l : Launch) (D : va_G) (B0 : Nat) (A : Nat → Prop) (n : Nat) (hn : n ≤ 40) : Met l yX0_newLane (ws_ yX0_newLane cX0_newLane 2 (some (.object "java/lang/Object"))) (zRm 2 1 40) (va_Pc [.int 1, .int (nI n)] (zPre B0 D A [])) (zQ (S := Nat) (fun u => (fun (q : Nat) => True) u) (fun u => (fun (q : Nat) => some (.ref q)) u) (fun u => (fun (q : Nat) => [[(q, .inl (D.1 102, n, .inl (fun _ => 0)))]]) u) D A) 1 40 A := by
  refine z_entry (by decide +kernel) (Nat.le_of_ble_eq_true rfl) (fun pX eX sX mX argsX blX mtX cX QX hQX gX hAX hnm => ?_)
  refine z_eq (lv₂ := [(0, .int 1), (1, .int (nI n))]) (st₂ := []) ?_ rfl rfl
  refine z_iload_n (pc := 0) gX 0 dX0_newLane_0 rfl rfl ?_
  refine z_if_ne (pc := 1) gX 10 dX0_newLane_1 (by decide) (fun c1 => ?_) (fun c1 => ?_)
  · skip
    refine z_iload_n (pc := 10) gX 0 dX0_newLane_10 rfl rfl ?_
    refine z_iconst (pc := 11) gX 1 dX0_newLane_11 (by decide) ?_
    refine z_icmp_ne (pc := 12) gX 21 dX0_newLane_12 (by decide) (fun c12 => ?_) (fun c12 => ?_)
    · skip
      have k12 : ¬ 1 = 1 := fun h => c12 ((zn_eq (a := 1) (b := 1) (by omega) (by omega)).mpr h)
      exact absurd c12 (by decide)
    · skip
      have k12 : 1 = 1 := (zn_eq (a := 1) (b := 1) (by omega) (by omega)).mp c12
      refine z_iload_n (pc := 15) gX 1 dX0_newLane_15 rfl rfl ?_
      refine z_newa (pc := 16) gX hAX (atype := .short) (ty := .short) 2 rfl rfl (by intro C h; cases h) q363 (n, .inl (fun _ => 0)) (fun _ => rfl) (by first | decide | omega | (simp only [componentBytes]; omega)) (by first | decide | omega | (simp only [componentBytes]; omega)) (by first | decide | (simp only [zRm]; omega)) (by first | decide | (simp only [zRm]; omega)) dX0_newLane_16 (fun q16 => ?_)
      refine z_norm [[(q16, .inl (D.1 102, n, .inl (fun _ => 0)))]] 1 n ?_ rfl (by first | rfl | omega) (by first | rfl | omega)
      refine z_goto (pc := 18) gX 24 dX0_newLane_18 (by decide) ?_
      exact z_aret gX hQX (by first | exact Or.inl ⟨_, rfl⟩ | exact Or.inr ⟨_, rfl⟩) (Or.inr ⟨_, rfl⟩) q16 trivial rfl rfl (by first | decide | omega) (by first | decide | omega) dX0_newLane_24
  · skip
    exact absurd c1 (by decide)

set_option maxHeartbeats 4000000 in
theorem met_X0_newLane_2 (l : Launch) (D : va_G) (B0 : Nat) (A : Nat → Prop) (n : Nat) (hn : n ≤ 40) : Met l yX0_newLane (ws_ yX0_newLane cX0_newLane 2 (some (.object "java/lang/Object"))) (zRm 2 1 40) (va_Pc [.int 2, .int (nI n)] (zPre B0 D A [])) (zQ (S := Nat) (fun u => (fun (q : Nat) => True) u) (fun u => (fun (q : Nat) => some (.ref q)) u) (fun u => (fun (q : Nat) => [[(q, .inl (D.1 100, n, .inl (fun _ => 0)))]]) u) D A) 1 40 A := by
  refine z_entry (by decide +kernel) (Nat.le_of_ble_eq_true rfl) (fun pX eX sX mX argsX blX mtX cX QX hQX gX hAX hnm => ?_)
  refine z_eq (lv₂ := [(0, .int 2), (1, .int (nI n))]) (st₂ := []) ?_ rfl rfl
  refine z_iload_n (pc := 0) gX 0 dX0_newLane_0 rfl rfl ?_
  refine z_if_ne (pc := 1) gX 10 dX0_newLane_1 (by decide) (fun c1 => ?_) (fun c1 => ?_)
  · skip
    refine z_iload_n (pc := 10) gX 0 dX0_newLane_10 rfl rfl ?_
    refine z_iconst (pc := 11) gX 1 dX0_newLane_11 (by decide) ?_
    refine z_icmp_ne (pc := 12) gX 21 dX0_newLane_12 (by decide) (fun c12 => ?_) (fun c12 => ?_)
    · skip
      have k12 : ¬ 2 = 1 := fun h => c12 ((zn_eq (a := 2) (b := 1) (by omega) (by omega)).mpr h)
      refine z_iload_n (pc := 21) gX 1 dX0_newLane_21 rfl rfl ?_
      refine z_newa (pc := 22) gX hAX (atype := .int) (ty := .int) 0 rfl rfl (by intro C h; cases h) q190 (n, .inl (fun _ => 0)) (fun _ => rfl) (by first | decide | omega | (simp only [componentBytes]; omega)) (by first | decide | omega | (simp only [componentBytes]; omega)) (by first | decide | (simp only [zRm]; omega)) (by first | decide | (simp only [zRm]; omega)) dX0_newLane_22 (fun q22 => ?_)
      refine z_norm [[(q22, .inl (D.1 100, n, .inl (fun _ => 0)))]] 1 n ?_ rfl (by first | rfl | omega) (by first | rfl | omega)
      exact z_aret gX hQX (by first | exact Or.inl ⟨_, rfl⟩ | exact Or.inr ⟨_, rfl⟩) (Or.inr ⟨_, rfl⟩) q22 trivial rfl rfl (by first | decide | omega) (by first | decide | omega) dX0_newLane_24
    · skip
      have k12 : 2 = 1 := (zn_eq (a := 2) (b := 1) (by omega) (by omega)).mp c12
      exact absurd c12 (by decide)
  · skip
    exact absurd c1 (by decide)

set_option maxHeartbeats 4000000 in
theorem met_X0_newLaneZ (l : Launch) (D : va_G) (B0 : Nat) (A : Nat → Prop) (w : Int32) (n : Int32) (hl : l.stackTraces = false) (hn : n < 0) : vz_Met l yX0_newLane (ws_ yX0_newLane cX0_newLane 2 (some (.object "java/lang/Object"))) (zRm 170 3 54) (va_Pc [.int w, .int n] (zPre B0 D A [])) (zQ (S := Unit) (fun _ => False) (fun _ => none) (fun _ => []) D A) (zXC (S := Unit) (fun q_ E_ => fun _ => E_ = "java/lang/NegativeArraySizeException" ∧ True) (fun _ => []) D A) 3 54 A := by
  refine z_xentry (by decide +kernel) (Nat.le_of_ble_eq_true rfl) (fun pX eX sX mX argsX blX mtX cX QX hQX gX hAX hnm htX => ?_)
  refine z_eq (lv₂ := [(0, .int w), (1, .int n)]) (st₂ := []) ?_ rfl rfl
  refine z_iload_n (pc := 0) gX 0 dX0_newLane_0 rfl rfl ?_
  refine z_if_ne (pc := 1) gX 10 dX0_newLane_1 (by decide) (fun c1 => ?_) (fun c1 => ?_)
  · skip
    refine z_iload_n (pc := 10) gX 0 dX0_newLane_10 rfl rfl ?_
    refine z_iconst (pc := 11) gX 1 dX0_newLane_11 (by decide) ?_
    refine z_icmp_ne (pc := 12) gX 21 dX0_newLane_12 (by decide) (fun c12 => ?_) (fun c12 => ?_)
    · skip
      refine z_iload_n (pc := 21) gX 1 dX0_newLane_21 rfl rfl ?_
      refine z_newZ (pc := 22) gX hAX hl ⟨by first | decide | (simp only [zRm]; omega), by first | decide | (simp only [zRm]; omega)⟩ ⟨by first | decide | (simp only [zRm]; omega), by first | decide | (simp only [zRm]; omega)⟩ hn dX0_newLane_22 ?_
      exact z_xout gX hQX (htX _) (fun _ => ()) (fun _ _ => ⟨rfl, trivial⟩) (fun _ => rfl) (by first | decide | omega) (by first | decide | omega)
    · skip
      refine z_iload_n (pc := 15) gX 1 dX0_newLane_15 rfl rfl ?_
      refine z_newZ (pc := 16) gX hAX hl ⟨by first | decide | (simp only [zRm]; omega), by first | decide | (simp only [zRm]; omega)⟩ ⟨by first | decide | (simp only [zRm]; omega), by first | decide | (simp only [zRm]; omega)⟩ hn dX0_newLane_16 ?_
      exact z_xout gX hQX (htX _) (fun _ => ()) (fun _ _ => ⟨rfl, trivial⟩) (fun _ => rfl) (by first | decide | omega) (by first | decide | omega)
  · skip
    refine z_iload_n (pc := 4) gX 1 dX0_newLane_4 rfl rfl ?_
    refine z_newZ (pc := 5) gX hAX hl ⟨by first | decide | (simp only [zRm]; omega), by first | decide | (simp only [zRm]; omega)⟩ ⟨by first | decide | (simp only [zRm]; omega), by first | decide | (simp only [zRm]; omega)⟩ hn dX0_newLane_5 ?_
    exact z_xout gX hQX (htX _) (fun _ => ()) (fun _ _ => ⟨rfl, trivial⟩) (fun _ => rfl) (by first | decide | omega) (by first | decide | omega)

set_option maxHeartbeats 4000000 in
theorem met_X0_well (l : Launch) (D : va_G) (B0 : Nat) (A : Nat → Prop) (o : Nat) (ad : Nat → Nat) (sa : Nat → Nat) (sb : Nat → Nat) (tr : Nat) (x : Nat → Int32) (v : Int32)  : Met l yX0_well (ws_ yX0_well cX0_well 2 (some .int)) (zRm 1 0 0) (va_Pc [.ref o, .int v] (zPre B0 D A [cOb o ad (sa 0) (sb 0) tr x])) (zQ (S := Unit) (fun _ => True) (fun _ => some (.int v)) (fun _ => [cOb o ad (sa 0) (sb 0) tr (upd x 3 0)]) D A) 0 0 A := by
  refine z_entry (by decide +kernel) (Nat.le_of_ble_eq_true rfl) (fun pX eX sX mX argsX blX mtX cX QX hQX gX hAX hnm => ?_)
  refine z_eq (lv₂ := [(0, .ref o), (1, .int v)]) (st₂ := []) ?_ rfl rfl
  refine z_aload_n (pc := 0) gX 0 dX0_well_0 rfl rfl ?_
  refine z_iconst (pc := 1) gX 0 dX0_well_1 (by decide) ?_
  refine z_put (pc := 2) gX hAX 0 rfl (ci := 0) (C := RX0) (T := TX0) (N := 14) rfl in_X0 tyX0 tyX0_ok nmX0 10 (by decide) q219 (fun _ h => h) rfl (v := .int 0) rfl rfl (Nat.le_of_ble_eq_true rfl) [cOb o ad (sa 0) (sb 0) tr (upd x 3 0)] rfl dX0_well_2 ?_
  refine z_iload_n (pc := 5) gX 1 dX0_well_5 rfl rfl ?_
  exact z_rim gX hQX () trivial (zsv rfl) rfl (by first | decide | omega) (by first | decide | omega) dX0_well_6
theorem hd_X0_well : zHd yX0_well 1 := by unfold zHd; decide +kernel

set_option maxHeartbeats 4000000 in
theorem met_X0_found (l : Launch) (D : va_G) (B0 : Nat) (A : Nat → Prop) (o : Nat) (ad : Nat → Nat) (sa : Nat → Nat) (sb : Nat → Nat) (tr : Nat) (x : Nat → Int32) (v : Int32)  : Met l yX0_found (ws_ yX0_found cX0_found 2 (some .int)) (zRm 1 0 0) (va_Pc [.ref o, .int v] (zPre B0 D A [cOb o ad (sa 0) (sb 0) tr x])) (zQ (S := Unit) (fun _ => True) (fun _ => some (.int (-1000010 - v))) (fun _ => [cOb o ad (sa 0) (sb 0) tr (upd x 3 v)]) D A) 0 0 A := by
  refine z_entry (by decide +kernel) (Nat.le_of_ble_eq_true rfl) (fun pX eX sX mX argsX blX mtX cX QX hQX gX hAX hnm => ?_)
  refine z_eq (lv₂ := [(0, .ref o), (1, .int v)]) (st₂ := []) ?_ rfl rfl
  refine z_aload_n (pc := 0) gX 0 dX0_found_0 rfl rfl ?_
  refine z_iload_n (pc := 1) gX 1 dX0_found_1 rfl rfl ?_
  refine z_put (pc := 2) gX hAX 0 rfl (ci := 0) (C := RX0) (T := TX0) (N := 14) rfl in_X0 tyX0 tyX0_ok nmX0 10 (by decide) q219 (fun _ h => h) rfl (v := .int v) rfl rfl (Nat.le_of_ble_eq_true rfl) [cOb o ad (sa 0) (sb 0) tr (upd x 3 v)] rfl dX0_found_2 ?_
  refine z_ldc (pc := 5) gX q362 dX0_found_5 ?_
  refine z_iload_n (pc := 7) gX 1 dX0_found_7 rfl rfl ?_
  refine z_isub (pc := 8) gX dX0_found_8 ?_
  exact z_rim gX hQX () trivial (zsv rfl) rfl (by first | decide | omega) (by first | decide | omega) dX0_found_9
theorem hd_X0_found : zHd yX0_found 1 := by unfold zHd; decide +kernel

