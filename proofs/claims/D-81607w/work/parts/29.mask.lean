set_option maxRecDepth 100000
/-! THE REFERENCE: asked: bodies that begin, traces, counts -/
def bgN (t : Nat) : Nat := if t < 16 then t + 1 else t
def bgT (t : Nat) (tr : Nat → Int32) (b : Int32) : Nat → Int32 := if t < 16 then upd tr t b else tr
def bg1 (p : Nat × (Nat → Int32)) (b : Int32) : Nat × (Nat → Int32) := (bgN p.1, bgT p.1 p.2 b)
def bgs (L : List Int32) (p : Nat × (Nat → Int32)) : Nat × (Nat → Int32) := L.foldl bg1 p
theorem bgN_le {t : Nat} (h : t ≤ 16) : bgN t ≤ 16 := by unfold bgN; split <;> omega
theorem bgs_le (L : List Int32) : ∀ p : Nat × (Nat → Int32), p.1 ≤ 16 → (bgs L p).1 ≤ 16 := by
  induction L with
  | nil => exact fun p h => h
  | cons b L ih => exact fun p h => ih (bg1 p b) (bgN_le h)
def stL (c : Nat → Int32) (r : Nat) : List Int32 := if c (18 + r) = 1 then [21, 20] else if c (18 + r) = 2 then [24, 21, 20] else [22, 21, 20]
def stV (c : Nat → Int32) (r : Nat) : Int32 := if c (18 + r) = 2 then 2 * (nI r + c (9 + r)) else if c (18 + r) = 3 then nI r + c (9 + r) - 1000 else nI r + c (9 + r)
def szL (c : Nat → Int32) (r : Nat) : List Int32 := if c (18 + r) < 4 then (if c (18 + r) = 2 then 12 :: 11 :: 10 :: stL c r else 11 :: 10 :: stL c r) else if c (18 + r) = 5 then [14, 13, 10] else [13, 10]
def szV (c : Nat → Int32) (r : Nat) : Int32 := if c (18 + r) < 4 then (if c (18 + r) = 2 then -(c (2 + r) + stV c r) else c (2 + r) + stV c r) else if c (18 + r) = 5 then 2 * (c (2 + r) - 100) else c (2 + r) - 100
def mAsk (c x tr : Nat → Int32) (r w : Int32) : Int32 × (Nat → Int32) × (Nat → Int32) :=
  if (mIn r 0 (c 17 - 1) && mIn w 0 1) = true then
    if w = 0 then (szV c r.toNatClampNeg, upd x 4 (nI (bgs (szL c r.toNatClampNeg) (0, tr)).1), (bgs (szL c r.toNatClampNeg) (0, tr)).2)
    else if c (18 + r.toNatClampNeg) < 4 then (stV c r.toNatClampNeg, upd x 4 (nI (bgs (stL c r.toNatClampNeg) (0, tr)).1), (bgs (stL c r.toNatClampNeg) (0, tr)).2)
    else (r - szV c r.toNatClampNeg, upd x 4 (nI (bgs (23 :: 20 :: szL c r.toNatClampNeg) (0, tr)).1), (bgs (23 :: 20 :: szL c r.toNatClampNeg) (0, tr)).2)
  else (-1000001, x, tr)
def mTrace (t : Nat) (tr : Nat → Int32) (i : Int32) : Int32 := if mIn i 0 (nI t - 1) = true then tr i.toNatClampNeg else -1000000
theorem ixN {r : Int32} {n : Nat} (h : mIn r 0 (nI n - 1) = true) (hn : n < 1000) : ∃ j : Nat, j < n ∧ r = nI j := by
  cases n with
  | zero =>
    simp only [mIn, Bool.and_eq_true, decide_eq_true_eq] at h
    have h2 : (nI 0 - 1 : Int32) < 0 := by decide
    exact absurd (Int32.le_trans h.1 h.2) (by rw [Int32.not_le]; exact h2)
  | succ n =>
    rw [nI_pred] at h
    obtain ⟨j, hj, e⟩ := mIn_nat h n (nI_toInt (by omega))
    exact ⟨j, by omega, e⟩
def cntB (P : Nat → Bool) : Nat → Nat
  | 0 => 0
  | r + 1 => cntB P r + (if P r = true then 1 else 0)
theorem cntB_le (P : Nat → Bool) : ∀ n, cntB P n ≤ n
  | 0 => Nat.le_refl 0
  | n + 1 => by have := cntB_le P n; simp only [cntB]; split <;> omega
def mCount (n : Nat) (x sz c : Nat → Int32) (w : Int32) : Int32 :=
  if w = 0 then nI (cntB (fun k => !decide (sz k < 0)) 8) else if w = 1 then c 17 else if w = 2 then c 16 else if w = 3 then c 0 else if w = 4 then c 1
  else if w = 5 then nI (cntB (fun r => decide (c (2 + r) = -1)) n) else if w = 6 then nI (cntB (fun r => mOn (c (2 + r))) n) else if w = 7 then nI (cntV c 99 n) else if w = 8 then x 3 else if w = 9 then x 1 else -1000001

set_option maxHeartbeats 4000000 in
theorem met_X4_begins (l : Launch) (D : va_G) (B0 : Nat) (A : Nat → Prop) (o : Nat) (ad : Nat → Nat) (x : Nat → Int32) (tr : Nat → Int32) (t : Nat) (b : Int32) (ht : x 4 = nI t) (ht16 : t ≤ 16) : Met l yX4_begins (ws_ yX4_begins cX4_begins 2 none) (zRm 1 0 0) (va_Pc [.ref o, .int b] (zPre B0 D A [mOb o ad x, [(ad 12, .inl (D.1 100, 16, .inl tr))]])) (zQ (S := Unit) (fun _ => True) (fun _ => none) (fun _ => [mOb o ad (upd x 4 (nI (bgN t))), [(ad 12, .inl (D.1 100, 16, .inl (bgT t tr b)))]]) D A) 0 0 A := by
  refine z_entry (by decide +kernel) (Nat.le_of_ble_eq_true rfl) (fun pX eX sX mX argsX blX mtX cX QX hQX gX hAX hnm => ?_)
  refine z_eq (lv₂ := [(0, .ref o), (1, .int b)]) (st₂ := []) ?_ rfl rfl
  refine z_aload_n (pc := 0) gX 0 dX4_begins_0 rfl rfl ?_
  refine z_get (pc := 1) gX (zI_ok gX hAX) (zm 0 rfl) (ci := 4) (C := RX4) (T := TX4) (N := 20) rfl in_X4 17 (by decide) q1400 (fun _ h => h) (v := .int (x 4)) rfl dX4_begins_1 ?_
  refine z_top (nI t) ht ?_
  refine z_aload_n (pc := 4) gX 0 dX4_begins_4 rfl rfl ?_
  refine z_get (pc := 5) gX (zI_ok gX hAX) (zm 0 rfl) (ci := 4) (C := RX4) (T := TX4) (N := 20) rfl in_X4 16 (by decide) q1399 (fun _ h => h) (v := .ref (ad 12)) rfl dX4_begins_5 ?_
  refine z_alen (pc := 8) gX (zI_ok gX hAX) (zm 1 rfl) 0 rfl dX4_begins_8 ?_
  refine z_icmp_ge (pc := 9) gX 32 dX4_begins_9 (by decide) (fun c9 => ?_) (fun c9 => ?_)
  · skip
    have k9 : 16 ≤ t := (zn_le (a := 16) (b := t) (by omega) (by omega)).mp c9
    exact z_vret gX hQX () trivial rfl (by rw [show bgN t = t by simp [bgN]; omega, show bgT t tr b = tr by simp [bgT]; omega, ← ht, upd_self]) (by first | decide | omega) (by first | decide | omega) dX4_begins_32
  · skip
    have k9 : t < 16 := (zn_nle (a := 16) (b := t) (by omega) (by omega)).mp c9
    refine z_aload_n (pc := 12) gX 0 dX4_begins_12 rfl rfl ?_
    refine z_get (pc := 13) gX (zI_ok gX hAX) (zm 0 rfl) (ci := 4) (C := RX4) (T := TX4) (N := 20) rfl in_X4 16 (by decide) q1399 (fun _ h => h) (v := .ref (ad 12)) rfl dX4_begins_13 ?_
    refine z_aload_n (pc := 16) gX 0 dX4_begins_16 rfl rfl ?_
    refine z_get (pc := 17) gX (zI_ok gX hAX) (zm 0 rfl) (ci := 4) (C := RX4) (T := TX4) (N := 20) rfl in_X4 17 (by decide) q1400 (fun _ h => h) (v := .int (x 4)) rfl dX4_begins_17 ?_
    refine z_top (nI t) ht ?_
    refine z_iload_n (pc := 20) gX 1 dX4_begins_20 rfl rfl ?_
    refine z_iast (pc := 21) gX hAX 1 (j := t) (n := 16) (f := tr) rfl (by omega) (by decide) [mOb o ad x, [(ad 12, .inl (D.1 100, 16, .inl (upd tr t b)))]] rfl dX4_begins_21 ?_
    refine z_aload_n (pc := 22) gX 0 dX4_begins_22 rfl rfl ?_
    refine z_dup (pc := 23) gX dX4_begins_23 rfl ?_
    refine z_get (pc := 24) gX (zI_ok gX hAX) (zm 0 rfl) (ci := 4) (C := RX4) (T := TX4) (N := 20) rfl in_X4 17 (by decide) q1400 (fun _ h => h) (v := .int (x 4)) rfl dX4_begins_24 ?_
    refine z_top (nI t) ht ?_
    refine z_iconst (pc := 27) gX 1 dX4_begins_27 (by decide) ?_
    refine z_iadd (pc := 28) gX dX4_begins_28 ?_
    refine z_top (nI (t + 1)) (nI_add t 1) ?_
    refine z_put (pc := 29) gX hAX 0 rfl (ci := 4) (C := RX4) (T := TX4) (N := 20) rfl in_X4 tyX4 tyX4_ok nmX4 17 (by decide) q1400 (fun _ h => h) rfl (v := .int (nI (t + 1))) rfl rfl (Nat.le_of_ble_eq_true rfl) [mOb o ad (upd x 4 (nI (t + 1))), [(ad 12, .inl (D.1 100, 16, .inl (upd tr t b)))]] rfl dX4_begins_29 ?_
    exact z_vret gX hQX () trivial rfl (by rw [show bgN t = t + 1 by simp [bgN]; omega, show bgT t tr b = upd tr t b by simp [bgT]; omega]) (by first | decide | omega) (by first | decide | omega) dX4_begins_32
theorem hd_X4_begins : zHd yX4_begins 1 := by unfold zHd; decide +kernel

set_option maxHeartbeats 4000000 in
theorem met_X4_stands (l : Launch) (D : va_G) (B0 : Nat) (A : Nat → Prop) (o : Nat) (ad : Nat → Nat) (x : Nat → Int32) (c : Nat → Int32) (tr : Nat → Int32) (n : Nat) (r : Nat) (t : Nat) (hr : r < 7) (ht : x 4 = nI t) (ht16 : t ≤ 16) : Met l yX4_stands (ws_ yX4_stands cX4_stands 4 (some .int)) (zRm 2 0 0) (va_Pc [.ref o, .int (nI r)] (zPre B0 D A [mOb o ad x, [(ad 5, .inl (D.1 100, 25, .inl c))], [(ad 12, .inl (D.1 100, 16, .inl tr))]])) (zQ (S := Unit) (fun _ => True) (fun _ => some (.int (stV c r))) (fun _ => [mOb o ad (upd x 4 (nI (bgs (stL c r) (t, tr)).1)), [(ad 5, .inl (D.1 100, 25, .inl c))], [(ad 12, .inl (D.1 100, 16, .inl ((bgs (stL c r) (t, tr)).2)))]]) D A) 0 0 A := by
  refine z_entry (by decide +kernel) (Nat.le_of_ble_eq_true rfl) (fun pX eX sX mX argsX blX mtX cX QX hQX gX hAX hnm => ?_)
  refine z_eq (lv₂ := [(0, .ref o), (1, .int (nI r))]) (st₂ := []) ?_ rfl rfl
  refine z_aload_n (pc := 0) gX 0 dX4_stands_0 rfl rfl ?_
  refine z_get (pc := 1) gX (zI_ok gX hAX) (zm 0 rfl) (ci := 4) (C := RX4) (T := TX4) (N := 20) rfl in_X4 8 (by decide) q1391 (fun _ h => h) (v := .ref (ad 5)) rfl dX4_stands_1 ?_
  refine z_bipush (pc := 4) gX 18 dX4_stands_4 (by decide) ?_
  refine z_iload_n (pc := 6) gX 1 dX4_stands_6 rfl rfl ?_
  refine z_iadd (pc := 7) gX dX4_stands_7 ?_
  refine z_top (nI (18 + r)) (nI_add 18 r) ?_
  refine z_iald (pc := 8) gX (zI_ok gX hAX) (j := (18 + r)) (n := 25) (f := c) (zm 1 rfl) (by omega) (by decide) dX4_stands_8 ?_
  refine z_istore_n (pc := 9) gX [1, 2, 0] [(0, .ref o), (1, .int (nI r)), (2, .int (c (18 + r)))] dX4_stands_9 rfl (by decide) rfl ?_
  refine z_iload_n (pc := 10) gX 2 dX4_stands_10 rfl rfl ?_
  refine z_iconst (pc := 11) gX 1 dX4_stands_11 (by decide) ?_
  refine z_icmp_eq (pc := 12) gX 31 dX4_stands_12 (by decide) (fun c12 => ?_) (fun c12 => ?_)
  · skip
    refine z_aload_n (pc := 31) gX 0 dX4_stands_31 rfl rfl ?_
    refine z_bipush (pc := 32) gX 21 dX4_stands_32 (by decide) ?_
    refine z_cMV (pc := 34) gX hAX [.int 21] [] [0, 2] [1] (fun A1 => met_X4_begins l D B0 A1 o ad x tr t 21 ht ht16) q1679 q1681 qs44 q54 q1682 (zm 0 rfl) (ci := 4) rfl rfl hd_X4_begins ⟨rfl, rfl⟩ ⟨(Nat.le_of_ble_eq_true rfl), (Nat.le_of_ble_eq_true rfl)⟩ rfl rfl rfl rfl rfl (Nat.le_of_ble_eq_true rfl) ⟨(Nat.le_of_ble_eq_true rfl), (Nat.le_of_ble_eq_true rfl)⟩ dX4_stands_34 ?_
    intro _ hu34
    refine z_re [0, 2, 1] [mOb o ad (upd x 4 (nI (bgN t))), [(ad 5, .inl (D.1 100, 25, .inl c))], [(ad 12, .inl (D.1 100, 16, .inl (bgT t tr 21)))]] rfl rfl ?_
    refine z_eq (lv₂ := [(0, .ref o), (1, .int (nI r)), (2, .int (c (18 + r)))]) (st₂ := []) ?_ rfl rfl
    refine z_aload_n (pc := 37) gX 0 dX4_stands_37 rfl rfl ?_
    refine z_bipush (pc := 38) gX 20 dX4_stands_38 (by decide) ?_
    refine z_cMV (pc := 40) gX hAX [.int 20] [] [0, 2] [1] (fun A1 => met_X4_begins l D B0 A1 o ad (upd x 4 (nI (bgN t))) (bgT t tr 21) (bgN t) 20 pk_us (by repeat (first | omega | refine bgN_le ?_ | refine bgs_le _ _ ?_))) q1679 q1681 qs44 q54 q1682 (zm 0 rfl) (ci := 4) rfl rfl hd_X4_begins ⟨rfl, rfl⟩ ⟨(Nat.le_of_ble_eq_true rfl), (Nat.le_of_ble_eq_true rfl)⟩ rfl rfl rfl rfl rfl (Nat.le_of_ble_eq_true rfl) ⟨(Nat.le_of_ble_eq_true rfl), (Nat.le_of_ble_eq_true rfl)⟩ dX4_stands_40 ?_
    intro _ hu40
    refine z_re [0, 2, 1] [mOb o ad (upd (upd x 4 (nI (bgN t))) 4 (nI (bgN (bgN t)))), [(ad 5, .inl (D.1 100, 25, .inl c))], [(ad 12, .inl (D.1 100, 16, .inl (bgT (bgN t) (bgT t tr 21) 20)))]] rfl rfl ?_
    refine z_eq (lv₂ := [(0, .ref o), (1, .int (nI r)), (2, .int (c (18 + r)))]) (st₂ := []) ?_ rfl rfl
    refine z_iload_n (pc := 43) gX 1 dX4_stands_43 rfl rfl ?_
    refine z_aload_n (pc := 44) gX 0 dX4_stands_44 rfl rfl ?_
    refine z_get (pc := 45) gX (zI_ok gX hAX) (zm 0 rfl) (ci := 4) (C := RX4) (T := TX4) (N := 20) rfl in_X4 8 (by decide) q1391 (fun _ h => h) (v := .ref (ad 5)) rfl dX4_stands_45 ?_
    refine z_bipush (pc := 48) gX 9 dX4_stands_48 (by decide) ?_
    refine z_iload_n (pc := 50) gX 1 dX4_stands_50 rfl rfl ?_
    refine z_iadd (pc := 51) gX dX4_stands_51 ?_
    refine z_top (nI (9 + r)) (nI_add 9 r) ?_
    refine z_iald (pc := 52) gX (zI_ok gX hAX) (j := (9 + r)) (n := 25) (f := c) (zm 1 rfl) (by omega) (by decide) dX4_stands_52 ?_
    refine z_iadd (pc := 53) gX dX4_stands_53 ?_
    refine z_istore_n (pc := 54) gX [1, 2, 3, 0] [(0, .ref o), (1, .int (nI r)), (2, .int (c (18 + r))), (3, .int ((nI r) + (c (9 + r))))] dX4_stands_54 rfl (by decide) rfl ?_
    refine z_iload_n (pc := 55) gX 2 dX4_stands_55 rfl rfl ?_
    refine z_iconst (pc := 56) gX 2 dX4_stands_56 (by decide) ?_
    refine z_icmp_ne (pc := 57) gX 66 dX4_stands_57 (by decide) (fun c57 => ?_) (fun c57 => ?_)
    · skip
      refine z_iload_n (pc := 66) gX 2 dX4_stands_66 rfl rfl ?_
      refine z_iconst (pc := 67) gX 3 dX4_stands_67 (by decide) ?_
      refine z_icmp_ne (pc := 68) gX 79 dX4_stands_68 (by decide) (fun c68 => ?_) (fun c68 => ?_)
      · skip
        refine z_iload_n (pc := 79) gX 3 dX4_stands_79 rfl rfl ?_
        exact z_rim gX hQX () trivial (zsv (by grind [stV])) (by simp only [upd_upd]; rw [show stL c r = [21, 20] by grind [stL]]; rfl) (by first | decide | omega) (by first | decide | omega) dX4_stands_80
      · skip
        refine z_iload_n (pc := 71) gX 3 dX4_stands_71 rfl rfl ?_
        refine z_sipush (pc := 72) gX 1000 dX4_stands_72 (by decide) ?_
        refine z_isub (pc := 75) gX dX4_stands_75 ?_
        refine z_goto (pc := 76) gX 80 dX4_stands_76 (by decide) ?_
        exact z_rim gX hQX () trivial (zsv (by grind [stV])) (by simp only [upd_upd]; rw [show stL c r = [21, 20] by grind [stL]]; rfl) (by first | decide | omega) (by first | decide | omega) dX4_stands_80
    · skip
      refine z_iconst (pc := 60) gX 2 dX4_stands_60 (by decide) ?_
      refine z_iload_n (pc := 61) gX 3 dX4_stands_61 rfl rfl ?_
      refine z_imul (pc := 62) gX dX4_stands_62 ?_
      refine z_goto (pc := 63) gX 80 dX4_stands_63 (by decide) ?_
      exact z_rim gX hQX () trivial (zsv (by grind [stV])) (by simp only [upd_upd]; rw [show stL c r = [21, 20] by grind [stL]]; rfl) (by first | decide | omega) (by first | decide | omega) dX4_stands_80
  · skip
    refine z_aload_n (pc := 15) gX 0 dX4_stands_15 rfl rfl ?_
    refine z_iload_n (pc := 16) gX 2 dX4_stands_16 rfl rfl ?_
    refine z_iconst (pc := 17) gX 2 dX4_stands_17 (by decide) ?_
    refine z_icmp_ne (pc := 18) gX 26 dX4_stands_18 (by decide) (fun c18 => ?_) (fun c18 => ?_)
    · skip
      refine z_bipush (pc := 26) gX 22 dX4_stands_26 (by decide) ?_
      refine z_cMV (pc := 28) gX hAX [.int 22] [] [0, 2] [1] (fun A1 => met_X4_begins l D B0 A1 o ad x tr t 22 ht ht16) q1679 q1681 qs44 q54 q1682 (zm 0 rfl) (ci := 4) rfl rfl hd_X4_begins ⟨rfl, rfl⟩ ⟨(Nat.le_of_ble_eq_true rfl), (Nat.le_of_ble_eq_true rfl)⟩ rfl rfl rfl rfl rfl (Nat.le_of_ble_eq_true rfl) ⟨(Nat.le_of_ble_eq_true rfl), (Nat.le_of_ble_eq_true rfl)⟩ dX4_stands_28 ?_
      intro _ hu28
      refine z_re [0, 2, 1] [mOb o ad (upd x 4 (nI (bgN t))), [(ad 5, .inl (D.1 100, 25, .inl c))], [(ad 12, .inl (D.1 100, 16, .inl (bgT t tr 22)))]] rfl rfl ?_
      refine z_eq (lv₂ := [(0, .ref o), (1, .int (nI r)), (2, .int (c (18 + r)))]) (st₂ := []) ?_ rfl rfl
      refine z_aload_n (pc := 31) gX 0 dX4_stands_31 rfl rfl ?_
      refine z_bipush (pc := 32) gX 21 dX4_stands_32 (by decide) ?_
      refine z_cMV (pc := 34) gX hAX [.int 21] [] [0, 2] [1] (fun A1 => met_X4_begins l D B0 A1 o ad (upd x 4 (nI (bgN t))) (bgT t tr 22) (bgN t) 21 pk_us (by repeat (first | omega | refine bgN_le ?_ | refine bgs_le _ _ ?_))) q1679 q1681 qs44 q54 q1682 (zm 0 rfl) (ci := 4) rfl rfl hd_X4_begins ⟨rfl, rfl⟩ ⟨(Nat.le_of_ble_eq_true rfl), (Nat.le_of_ble_eq_true rfl)⟩ rfl rfl rfl rfl rfl (Nat.le_of_ble_eq_true rfl) ⟨(Nat.le_of_ble_eq_true rfl), (Nat.le_of_ble_eq_true rfl)⟩ dX4_stands_34 ?_
      intro _ hu34
      refine z_re [0, 2, 1] [mOb o ad (upd (upd x 4 (nI (bgN t))) 4 (nI (bgN (bgN t)))), [(ad 5, .inl (D.1 100, 25, .inl c))], [(ad 12, .inl (D.1 100, 16, .inl (bgT (bgN t) (bgT t tr 22) 21)))]] rfl rfl ?_
      refine z_eq (lv₂ := [(0, .ref o), (1, .int (nI r)), (2, .int (c (18 + r)))]) (st₂ := []) ?_ rfl rfl
      refine z_aload_n (pc := 37) gX 0 dX4_stands_37 rfl rfl ?_
      refine z_bipush (pc := 38) gX 20 dX4_stands_38 (by decide) ?_
      refine z_cMV (pc := 40) gX hAX [.int 20] [] [0, 2] [1] (fun A1 => met_X4_begins l D B0 A1 o ad (upd (upd x 4 (nI (bgN t))) 4 (nI (bgN (bgN t)))) (bgT (bgN t) (bgT t tr 22) 21) (bgN (bgN t)) 20 pk_us (by repeat (first | omega | refine bgN_le ?_ | refine bgs_le _ _ ?_))) q1679 q1681 qs44 q54 q1682 (zm 0 rfl) (ci := 4) rfl rfl hd_X4_begins ⟨rfl, rfl⟩ ⟨(Nat.le_of_ble_eq_true rfl), (Nat.le_of_ble_eq_true rfl)⟩ rfl rfl rfl rfl rfl (Nat.le_of_ble_eq_true rfl) ⟨(Nat.le_of_ble_eq_true rfl), (Nat.le_of_ble_eq_true rfl)⟩ dX4_stands_40 ?_
      intro _ hu40
      refine z_re [0, 2, 1] [mOb o ad (upd (upd (upd x 4 (nI (bgN t))) 4 (nI (bgN (bgN t)))) 4 (nI (bgN (bgN (bgN t))))), [(ad 5, .inl (D.1 100, 25, .inl c))], [(ad 12, .inl (D.1 100, 16, .inl (bgT (bgN (bgN t)) (bgT (bgN t) (bgT t tr 22) 21) 20)))]] rfl rfl ?_
      refine z_eq (lv₂ := [(0, .ref o), (1, .int (nI r)), (2, .int (c (18 + r)))]) (st₂ := []) ?_ rfl rfl
      refine z_iload_n (pc := 43) gX 1 dX4_stands_43 rfl rfl ?_
      refine z_aload_n (pc := 44) gX 0 dX4_stands_44 rfl rfl ?_
      refine z_get (pc := 45) gX (zI_ok gX hAX) (zm 0 rfl) (ci := 4) (C := RX4) (T := TX4) (N := 20) rfl in_X4 8 (by decide) q1391 (fun _ h => h) (v := .ref (ad 5)) rfl dX4_stands_45 ?_
      refine z_bipush (pc := 48) gX 9 dX4_stands_48 (by decide) ?_
      refine z_iload_n (pc := 50) gX 1 dX4_stands_50 rfl rfl ?_
      refine z_iadd (pc := 51) gX dX4_stands_51 ?_
      refine z_top (nI (9 + r)) (nI_add 9 r) ?_
      refine z_iald (pc := 52) gX (zI_ok gX hAX) (j := (9 + r)) (n := 25) (f := c) (zm 1 rfl) (by omega) (by decide) dX4_stands_52 ?_
      refine z_iadd (pc := 53) gX dX4_stands_53 ?_
      refine z_istore_n (pc := 54) gX [1, 2, 3, 0] [(0, .ref o), (1, .int (nI r)), (2, .int (c (18 + r))), (3, .int ((nI r) + (c (9 + r))))] dX4_stands_54 rfl (by decide) rfl ?_
      refine z_iload_n (pc := 55) gX 2 dX4_stands_55 rfl rfl ?_
      refine z_iconst (pc := 56) gX 2 dX4_stands_56 (by decide) ?_
      refine z_icmp_ne (pc := 57) gX 66 dX4_stands_57 (by decide) (fun c57 => ?_) (fun c57 => ?_)
      · skip
        refine z_iload_n (pc := 66) gX 2 dX4_stands_66 rfl rfl ?_
        refine z_iconst (pc := 67) gX 3 dX4_stands_67 (by decide) ?_
        refine z_icmp_ne (pc := 68) gX 79 dX4_stands_68 (by decide) (fun c68 => ?_) (fun c68 => ?_)
        · skip
          refine z_iload_n (pc := 79) gX 3 dX4_stands_79 rfl rfl ?_
          exact z_rim gX hQX () trivial (zsv (by grind [stV])) (by simp only [upd_upd]; rw [show stL c r = [22, 21, 20] by grind [stL]]; rfl) (by first | decide | omega) (by first | decide | omega) dX4_stands_80
        · skip
          refine z_iload_n (pc := 71) gX 3 dX4_stands_71 rfl rfl ?_
          refine z_sipush (pc := 72) gX 1000 dX4_stands_72 (by decide) ?_
          refine z_isub (pc := 75) gX dX4_stands_75 ?_
          refine z_goto (pc := 76) gX 80 dX4_stands_76 (by decide) ?_
          exact z_rim gX hQX () trivial (zsv (by grind [stV])) (by simp only [upd_upd]; rw [show stL c r = [22, 21, 20] by grind [stL]]; rfl) (by first | decide | omega) (by first | decide | omega) dX4_stands_80
      · skip
        refine z_iconst (pc := 60) gX 2 dX4_stands_60 (by decide) ?_
        refine z_iload_n (pc := 61) gX 3 dX4_stands_61 rfl rfl ?_
        refine z_imul (pc := 62) gX dX4_stands_62 ?_
        refine z_goto (pc := 63) gX 80 dX4_stands_63 (by decide) ?_
        exact z_rim gX hQX () trivial (zsv (by grind [stV])) (by simp only [upd_upd]; rw [show stL c r = [22, 21, 20] by grind [stL]]; rfl) (by first | decide | omega) (by first | decide | omega) dX4_stands_80
    · skip
      refine z_bipush (pc := 21) gX 24 dX4_stands_21 (by decide) ?_
      refine z_goto (pc := 23) gX 28 dX4_stands_23 (by decide) ?_
      refine z_cMV (pc := 28) gX hAX [.int 24] [] [0, 2] [1] (fun A1 => met_X4_begins l D B0 A1 o ad x tr t 24 ht ht16) q1679 q1681 qs44 q54 q1682 (zm 0 rfl) (ci := 4) rfl rfl hd_X4_begins ⟨rfl, rfl⟩ ⟨(Nat.le_of_ble_eq_true rfl), (Nat.le_of_ble_eq_true rfl)⟩ rfl rfl rfl rfl rfl (Nat.le_of_ble_eq_true rfl) ⟨(Nat.le_of_ble_eq_true rfl), (Nat.le_of_ble_eq_true rfl)⟩ dX4_stands_28 ?_
      intro _ hu28
      refine z_re [0, 2, 1] [mOb o ad (upd x 4 (nI (bgN t))), [(ad 5, .inl (D.1 100, 25, .inl c))], [(ad 12, .inl (D.1 100, 16, .inl (bgT t tr 24)))]] rfl rfl ?_
      refine z_eq (lv₂ := [(0, .ref o), (1, .int (nI r)), (2, .int (c (18 + r)))]) (st₂ := []) ?_ rfl rfl
      refine z_aload_n (pc := 31) gX 0 dX4_stands_31 rfl rfl ?_
      refine z_bipush (pc := 32) gX 21 dX4_stands_32 (by decide) ?_
      refine z_cMV (pc := 34) gX hAX [.int 21] [] [0, 2] [1] (fun A1 => met_X4_begins l D B0 A1 o ad (upd x 4 (nI (bgN t))) (bgT t tr 24) (bgN t) 21 pk_us (by repeat (first | omega | refine bgN_le ?_ | refine bgs_le _ _ ?_))) q1679 q1681 qs44 q54 q1682 (zm 0 rfl) (ci := 4) rfl rfl hd_X4_begins ⟨rfl, rfl⟩ ⟨(Nat.le_of_ble_eq_true rfl), (Nat.le_of_ble_eq_true rfl)⟩ rfl rfl rfl rfl rfl (Nat.le_of_ble_eq_true rfl) ⟨(Nat.le_of_ble_eq_true rfl), (Nat.le_of_ble_eq_true rfl)⟩ dX4_stands_34 ?_
      intro _ hu34
      refine z_re [0, 2, 1] [mOb o ad (upd (upd x 4 (nI (bgN t))) 4 (nI (bgN (bgN t)))), [(ad 5, .inl (D.1 100, 25, .inl c))], [(ad 12, .inl (D.1 100, 16, .inl (bgT (bgN t) (bgT t tr 24) 21)))]] rfl rfl ?_
      refine z_eq (lv₂ := [(0, .ref o), (1, .int (nI r)), (2, .int (c (18 + r)))]) (st₂ := []) ?_ rfl rfl
      refine z_aload_n (pc := 37) gX 0 dX4_stands_37 rfl rfl ?_
      refine z_bipush (pc := 38) gX 20 dX4_stands_38 (by decide) ?_
      refine z_cMV (pc := 40) gX hAX [.int 20] [] [0, 2] [1] (fun A1 => met_X4_begins l D B0 A1 o ad (upd (upd x 4 (nI (bgN t))) 4 (nI (bgN (bgN t)))) (bgT (bgN t) (bgT t tr 24) 21) (bgN (bgN t)) 20 pk_us (by repeat (first | omega | refine bgN_le ?_ | refine bgs_le _ _ ?_))) q1679 q1681 qs44 q54 q1682 (zm 0 rfl) (ci := 4) rfl rfl hd_X4_begins ⟨rfl, rfl⟩ ⟨(Nat.le_of_ble_eq_true rfl), (Nat.le_of_ble_eq_true rfl)⟩ rfl rfl rfl rfl rfl (Nat.le_of_ble_eq_true rfl) ⟨(Nat.le_of_ble_eq_true rfl), (Nat.le_of_ble_eq_true rfl)⟩ dX4_stands_40 ?_
      intro _ hu40
      refine z_re [0, 2, 1] [mOb o ad (upd (upd (upd x 4 (nI (bgN t))) 4 (nI (bgN (bgN t)))) 4 (nI (bgN (bgN (bgN t))))), [(ad 5, .inl (D.1 100, 25, .inl c))], [(ad 12, .inl (D.1 100, 16, .inl (bgT (bgN (bgN t)) (bgT (bgN t) (bgT t tr 24) 21) 20)))]] rfl rfl ?_
      refine z_eq (lv₂ := [(0, .ref o), (1, .int (nI r)), (2, .int (c (18 + r)))]) (st₂ := []) ?_ rfl rfl
      refine z_iload_n (pc := 43) gX 1 dX4_stands_43 rfl rfl ?_
      refine z_aload_n (pc := 44) gX 0 dX4_stands_44 rfl rfl ?_
      refine z_get (pc := 45) gX (zI_ok gX hAX) (zm 0 rfl) (ci := 4) (C := RX4) (T := TX4) (N := 20) rfl in_X4 8 (by decide) q1391 (fun _ h => h) (v := .ref (ad 5)) rfl dX4_stands_45 ?_
      refine z_bipush (pc := 48) gX 9 dX4_stands_48 (by decide) ?_
      refine z_iload_n (pc := 50) gX 1 dX4_stands_50 rfl rfl ?_
      refine z_iadd (pc := 51) gX dX4_stands_51 ?_
      refine z_top (nI (9 + r)) (nI_add 9 r) ?_
      refine z_iald (pc := 52) gX (zI_ok gX hAX) (j := (9 + r)) (n := 25) (f := c) (zm 1 rfl) (by omega) (by decide) dX4_stands_52 ?_
      refine z_iadd (pc := 53) gX dX4_stands_53 ?_
      refine z_istore_n (pc := 54) gX [1, 2, 3, 0] [(0, .ref o), (1, .int (nI r)), (2, .int (c (18 + r))), (3, .int ((nI r) + (c (9 + r))))] dX4_stands_54 rfl (by decide) rfl ?_
      refine z_iload_n (pc := 55) gX 2 dX4_stands_55 rfl rfl ?_
      refine z_iconst (pc := 56) gX 2 dX4_stands_56 (by decide) ?_
      refine z_icmp_ne (pc := 57) gX 66 dX4_stands_57 (by decide) (fun c57 => ?_) (fun c57 => ?_)
      · skip
        refine z_iload_n (pc := 66) gX 2 dX4_stands_66 rfl rfl ?_
        refine z_iconst (pc := 67) gX 3 dX4_stands_67 (by decide) ?_
        refine z_icmp_ne (pc := 68) gX 79 dX4_stands_68 (by decide) (fun c68 => ?_) (fun c68 => ?_)
        · skip
          refine z_iload_n (pc := 79) gX 3 dX4_stands_79 rfl rfl ?_
          exact z_rim gX hQX () trivial (zsv (by grind [stV])) (by simp only [upd_upd]; rw [show stL c r = [24, 21, 20] by grind [stL]]; rfl) (by first | decide | omega) (by first | decide | omega) dX4_stands_80
        · skip
          refine z_iload_n (pc := 71) gX 3 dX4_stands_71 rfl rfl ?_
          refine z_sipush (pc := 72) gX 1000 dX4_stands_72 (by decide) ?_
          refine z_isub (pc := 75) gX dX4_stands_75 ?_
          refine z_goto (pc := 76) gX 80 dX4_stands_76 (by decide) ?_
          exact z_rim gX hQX () trivial (zsv (by grind [stV])) (by simp only [upd_upd]; rw [show stL c r = [24, 21, 20] by grind [stL]]; rfl) (by first | decide | omega) (by first | decide | omega) dX4_stands_80
      · skip
        refine z_iconst (pc := 60) gX 2 dX4_stands_60 (by decide) ?_
        refine z_iload_n (pc := 61) gX 3 dX4_stands_61 rfl rfl ?_
        refine z_imul (pc := 62) gX dX4_stands_62 ?_
        refine z_goto (pc := 63) gX 80 dX4_stands_63 (by decide) ?_
        exact z_rim gX hQX () trivial (zsv (by grind [stV])) (by simp only [upd_upd]; rw [show stL c r = [24, 21, 20] by grind [stL]]; rfl) (by first | decide | omega) (by first | decide | omega) dX4_stands_80
theorem hd_X4_stands : zHd yX4_stands 1 := by unfold zHd; decide +kernel

set_option maxHeartbeats 4000000 in
theorem met_X4_size (l : Launch) (D : va_G) (B0 : Nat) (A : Nat → Prop) (o : Nat) (ad : Nat → Nat) (x : Nat → Int32) (c : Nat → Int32) (tr : Nat → Int32) (n : Nat) (r : Nat) (t : Nat) (hr : r < 7) (ht : x 4 = nI t) (ht16 : t ≤ 16) : Met l yX4_size (ws_ yX4_size cX4_size 5 (some .int)) (zRm 3 0 0) (va_Pc [.ref o, .int (nI r)] (zPre B0 D A [mOb o ad x, [(ad 5, .inl (D.1 100, 25, .inl c))], [(ad 12, .inl (D.1 100, 16, .inl tr))]])) (zQ (S := Unit) (fun _ => True) (fun _ => some (.int (szV c r))) (fun _ => [mOb o ad (upd x 4 (nI (bgs (szL c r) (t, tr)).1)), [(ad 5, .inl (D.1 100, 25, .inl c))], [(ad 12, .inl (D.1 100, 16, .inl ((bgs (szL c r) (t, tr)).2)))]]) D A) 0 0 A := by
  refine z_entry (by decide +kernel) (Nat.le_of_ble_eq_true rfl) (fun pX eX sX mX argsX blX mtX cX QX hQX gX hAX hnm => ?_)
  refine z_eq (lv₂ := [(0, .ref o), (1, .int (nI r))]) (st₂ := []) ?_ rfl rfl
  refine z_aload_n (pc := 0) gX 0 dX4_size_0 rfl rfl ?_
  refine z_get (pc := 1) gX (zI_ok gX hAX) (zm 0 rfl) (ci := 4) (C := RX4) (T := TX4) (N := 20) rfl in_X4 8 (by decide) q1391 (fun _ h => h) (v := .ref (ad 5)) rfl dX4_size_1 ?_
  refine z_bipush (pc := 4) gX 18 dX4_size_4 (by decide) ?_
  refine z_iload_n (pc := 6) gX 1 dX4_size_6 rfl rfl ?_
  refine z_iadd (pc := 7) gX dX4_size_7 ?_
  refine z_top (nI (18 + r)) (nI_add 18 r) ?_
  refine z_iald (pc := 8) gX (zI_ok gX hAX) (j := (18 + r)) (n := 25) (f := c) (zm 1 rfl) (by omega) (by decide) dX4_size_8 ?_
  refine z_istore_n (pc := 9) gX [1, 2, 0] [(0, .ref o), (1, .int (nI r)), (2, .int (c (18 + r)))] dX4_size_9 rfl (by decide) rfl ?_
  refine z_aload_n (pc := 10) gX 0 dX4_size_10 rfl rfl ?_
  refine z_get (pc := 11) gX (zI_ok gX hAX) (zm 0 rfl) (ci := 4) (C := RX4) (T := TX4) (N := 20) rfl in_X4 8 (by decide) q1391 (fun _ h => h) (v := .ref (ad 5)) rfl dX4_size_11 ?_
  refine z_iconst (pc := 14) gX 2 dX4_size_14 (by decide) ?_
  refine z_iload_n (pc := 15) gX 1 dX4_size_15 rfl rfl ?_
  refine z_iadd (pc := 16) gX dX4_size_16 ?_
  refine z_top (nI (2 + r)) (nI_add 2 r) ?_
  refine z_iald (pc := 17) gX (zI_ok gX hAX) (j := (2 + r)) (n := 25) (f := c) (zm 1 rfl) (by omega) (by decide) dX4_size_17 ?_
  refine z_istore_n (pc := 18) gX [1, 2, 3, 0] [(0, .ref o), (1, .int (nI r)), (2, .int (c (18 + r))), (3, .int (c (2 + r)))] dX4_size_18 rfl (by decide) rfl ?_
  refine z_iload_n (pc := 19) gX 2 dX4_size_19 rfl rfl ?_
  refine z_iconst (pc := 20) gX 5 dX4_size_20 (by decide) ?_
  refine z_icmp_ne (pc := 21) gX 30 dX4_size_21 (by decide) (fun c21 => ?_) (fun c21 => ?_)
  · skip
    refine z_iload_n (pc := 30) gX 2 dX4_size_30 rfl rfl ?_
    refine z_iconst (pc := 31) gX 4 dX4_size_31 (by decide) ?_
    refine z_icmp_lt (pc := 32) gX 66 dX4_size_32 (by decide) (fun c32 => ?_) (fun c32 => ?_)
    · skip
      refine z_iload_n (pc := 66) gX 2 dX4_size_66 rfl rfl ?_
      refine z_iconst (pc := 67) gX 2 dX4_size_67 (by decide) ?_
      refine z_icmp_ne (pc := 68) gX 77 dX4_size_68 (by decide) (fun c68 => ?_) (fun c68 => ?_)
      · skip
        refine z_aload_n (pc := 77) gX 0 dX4_size_77 rfl rfl ?_
        refine z_bipush (pc := 78) gX 11 dX4_size_78 (by decide) ?_
        refine z_cMV (pc := 80) gX hAX [.int 11] [] [0, 2] [1] (fun A1 => met_X4_begins l D B0 A1 o ad x tr t 11 ht ht16) q1679 q1681 qs44 q54 q1682 (zm 0 rfl) (ci := 4) rfl rfl hd_X4_begins ⟨rfl, rfl⟩ ⟨(Nat.le_of_ble_eq_true rfl), (Nat.le_of_ble_eq_true rfl)⟩ rfl rfl rfl rfl rfl (Nat.le_of_ble_eq_true rfl) ⟨(Nat.le_of_ble_eq_true rfl), (Nat.le_of_ble_eq_true rfl)⟩ dX4_size_80 ?_
        intro _ hu80
        refine z_re [0, 2, 1] [mOb o ad (upd x 4 (nI (bgN t))), [(ad 5, .inl (D.1 100, 25, .inl c))], [(ad 12, .inl (D.1 100, 16, .inl (bgT t tr 11)))]] rfl rfl ?_
        refine z_eq (lv₂ := [(0, .ref o), (1, .int (nI r)), (2, .int (c (18 + r))), (3, .int (c (2 + r)))]) (st₂ := []) ?_ rfl rfl
        refine z_aload_n (pc := 83) gX 0 dX4_size_83 rfl rfl ?_
        refine z_bipush (pc := 84) gX 10 dX4_size_84 (by decide) ?_
        refine z_cMV (pc := 86) gX hAX [.int 10] [] [0, 2] [1] (fun A1 => met_X4_begins l D B0 A1 o ad (upd x 4 (nI (bgN t))) (bgT t tr 11) (bgN t) 10 pk_us (by repeat (first | omega | refine bgN_le ?_ | refine bgs_le _ _ ?_))) q1679 q1681 qs44 q54 q1682 (zm 0 rfl) (ci := 4) rfl rfl hd_X4_begins ⟨rfl, rfl⟩ ⟨(Nat.le_of_ble_eq_true rfl), (Nat.le_of_ble_eq_true rfl)⟩ rfl rfl rfl rfl rfl (Nat.le_of_ble_eq_true rfl) ⟨(Nat.le_of_ble_eq_true rfl), (Nat.le_of_ble_eq_true rfl)⟩ dX4_size_86 ?_
        intro _ hu86
        refine z_re [0, 2, 1] [mOb o ad (upd (upd x 4 (nI (bgN t))) 4 (nI (bgN (bgN t)))), [(ad 5, .inl (D.1 100, 25, .inl c))], [(ad 12, .inl (D.1 100, 16, .inl (bgT (bgN t) (bgT t tr 11) 10)))]] rfl rfl ?_
        refine z_eq (lv₂ := [(0, .ref o), (1, .int (nI r)), (2, .int (c (18 + r))), (3, .int (c (2 + r)))]) (st₂ := []) ?_ rfl rfl
        refine z_iload_n (pc := 89) gX 3 dX4_size_89 rfl rfl ?_
        refine z_aload_n (pc := 90) gX 0 dX4_size_90 rfl rfl ?_
        refine z_iload_n (pc := 91) gX 1 dX4_size_91 rfl rfl ?_
        refine z_cMV (pc := 92) gX hAX [.int (nI r)] [.int (c (2 + r))] [0, 1, 2] [] (fun A1 => met_X4_stands l D B0 A1 o ad (upd (upd x 4 (nI (bgN t))) 4 (nI (bgN (bgN t)))) c (bgT (bgN t) (bgT t tr 11) 10) n r (bgN (bgN t)) (by first | assumption | omega) pk_us (by repeat (first | omega | refine bgN_le ?_ | refine bgs_le _ _ ?_))) q1683 q1685 qs45 q54 q1686 (zm 0 rfl) (ci := 4) rfl rfl hd_X4_stands ⟨rfl, rfl⟩ ⟨(Nat.le_of_ble_eq_true rfl), (Nat.le_of_ble_eq_true rfl)⟩ rfl rfl rfl rfl rfl (Nat.le_of_ble_eq_true rfl) ⟨(Nat.le_of_ble_eq_true rfl), (Nat.le_of_ble_eq_true rfl)⟩ dX4_size_92 ?_
        intro _ hu92
        refine z_re [0, 1, 2] [mOb o ad (upd (upd (upd x 4 (nI (bgN t))) 4 (nI (bgN (bgN t)))) 4 (nI (bgs (stL c r) ((bgN (bgN t)), (bgT (bgN t) (bgT t tr 11) 10))).1)), [(ad 5, .inl (D.1 100, 25, .inl c))], [(ad 12, .inl (D.1 100, 16, .inl ((bgs (stL c r) ((bgN (bgN t)), (bgT (bgN t) (bgT t tr 11) 10))).2)))]] rfl rfl ?_
        refine z_eq (lv₂ := [(0, .ref o), (1, .int (nI r)), (2, .int (c (18 + r))), (3, .int (c (2 + r)))]) (st₂ := [.int (stV c r), .int (c (2 + r))]) ?_ rfl rfl
        refine z_iadd (pc := 95) gX dX4_size_95 ?_
        refine z_istore (pc := 96) gX [1, 2, 3, 4, 0] [(0, .ref o), (1, .int (nI r)), (2, .int (c (18 + r))), (3, .int (c (2 + r))), (4, .int ((c (2 + r)) + (stV c r)))] dX4_size_96 (by decide) rfl ?_
        refine z_iload_n (pc := 98) gX 2 dX4_size_98 rfl rfl ?_
        refine z_iconst (pc := 99) gX 2 dX4_size_99 (by decide) ?_
        refine z_icmp_ne (pc := 100) gX 109 dX4_size_100 (by decide) (fun c100 => ?_) (fun c100 => ?_)
        · skip
          refine z_iload (pc := 109) gX 4 dX4_size_109 rfl ?_
          exact z_rim gX hQX () trivial (zsv (by grind [szV])) (by simp only [upd_upd]; rw [show szL c r = 11 :: 10 :: stL c r by grind [szL]]; rfl) (by first | decide | omega) (by first | decide | omega) dX4_size_111
        · skip
          refine z_iload (pc := 103) gX 4 dX4_size_103 rfl ?_
          refine z_ineg (pc := 105) gX dX4_size_105 ?_
          refine z_goto (pc := 106) gX 111 dX4_size_106 (by decide) ?_
          exact z_rim gX hQX () trivial (zsv (by grind [szV])) (by simp only [upd_upd]; rw [show szL c r = 11 :: 10 :: stL c r by grind [szL]]; rfl) (by first | decide | omega) (by first | decide | omega) dX4_size_111
      · skip
        refine z_aload_n (pc := 71) gX 0 dX4_size_71 rfl rfl ?_
        refine z_bipush (pc := 72) gX 12 dX4_size_72 (by decide) ?_
        refine z_cMV (pc := 74) gX hAX [.int 12] [] [0, 2] [1] (fun A1 => met_X4_begins l D B0 A1 o ad x tr t 12 ht ht16) q1679 q1681 qs44 q54 q1682 (zm 0 rfl) (ci := 4) rfl rfl hd_X4_begins ⟨rfl, rfl⟩ ⟨(Nat.le_of_ble_eq_true rfl), (Nat.le_of_ble_eq_true rfl)⟩ rfl rfl rfl rfl rfl (Nat.le_of_ble_eq_true rfl) ⟨(Nat.le_of_ble_eq_true rfl), (Nat.le_of_ble_eq_true rfl)⟩ dX4_size_74 ?_
        intro _ hu74
        refine z_re [0, 2, 1] [mOb o ad (upd x 4 (nI (bgN t))), [(ad 5, .inl (D.1 100, 25, .inl c))], [(ad 12, .inl (D.1 100, 16, .inl (bgT t tr 12)))]] rfl rfl ?_
        refine z_eq (lv₂ := [(0, .ref o), (1, .int (nI r)), (2, .int (c (18 + r))), (3, .int (c (2 + r)))]) (st₂ := []) ?_ rfl rfl
        refine z_aload_n (pc := 77) gX 0 dX4_size_77 rfl rfl ?_
        refine z_bipush (pc := 78) gX 11 dX4_size_78 (by decide) ?_
        refine z_cMV (pc := 80) gX hAX [.int 11] [] [0, 2] [1] (fun A1 => met_X4_begins l D B0 A1 o ad (upd x 4 (nI (bgN t))) (bgT t tr 12) (bgN t) 11 pk_us (by repeat (first | omega | refine bgN_le ?_ | refine bgs_le _ _ ?_))) q1679 q1681 qs44 q54 q1682 (zm 0 rfl) (ci := 4) rfl rfl hd_X4_begins ⟨rfl, rfl⟩ ⟨(Nat.le_of_ble_eq_true rfl), (Nat.le_of_ble_eq_true rfl)⟩ rfl rfl rfl rfl rfl (Nat.le_of_ble_eq_true rfl) ⟨(Nat.le_of_ble_eq_true rfl), (Nat.le_of_ble_eq_true rfl)⟩ dX4_size_80 ?_
        intro _ hu80
        refine z_re [0, 2, 1] [mOb o ad (upd (upd x 4 (nI (bgN t))) 4 (nI (bgN (bgN t)))), [(ad 5, .inl (D.1 100, 25, .inl c))], [(ad 12, .inl (D.1 100, 16, .inl (bgT (bgN t) (bgT t tr 12) 11)))]] rfl rfl ?_
        refine z_eq (lv₂ := [(0, .ref o), (1, .int (nI r)), (2, .int (c (18 + r))), (3, .int (c (2 + r)))]) (st₂ := []) ?_ rfl rfl
        refine z_aload_n (pc := 83) gX 0 dX4_size_83 rfl rfl ?_
        refine z_bipush (pc := 84) gX 10 dX4_size_84 (by decide) ?_
        refine z_cMV (pc := 86) gX hAX [.int 10] [] [0, 2] [1] (fun A1 => met_X4_begins l D B0 A1 o ad (upd (upd x 4 (nI (bgN t))) 4 (nI (bgN (bgN t)))) (bgT (bgN t) (bgT t tr 12) 11) (bgN (bgN t)) 10 pk_us (by repeat (first | omega | refine bgN_le ?_ | refine bgs_le _ _ ?_))) q1679 q1681 qs44 q54 q1682 (zm 0 rfl) (ci := 4) rfl rfl hd_X4_begins ⟨rfl, rfl⟩ ⟨(Nat.le_of_ble_eq_true rfl), (Nat.le_of_ble_eq_true rfl)⟩ rfl rfl rfl rfl rfl (Nat.le_of_ble_eq_true rfl) ⟨(Nat.le_of_ble_eq_true rfl), (Nat.le_of_ble_eq_true rfl)⟩ dX4_size_86 ?_
        intro _ hu86
        refine z_re [0, 2, 1] [mOb o ad (upd (upd (upd x 4 (nI (bgN t))) 4 (nI (bgN (bgN t)))) 4 (nI (bgN (bgN (bgN t))))), [(ad 5, .inl (D.1 100, 25, .inl c))], [(ad 12, .inl (D.1 100, 16, .inl (bgT (bgN (bgN t)) (bgT (bgN t) (bgT t tr 12) 11) 10)))]] rfl rfl ?_
        refine z_eq (lv₂ := [(0, .ref o), (1, .int (nI r)), (2, .int (c (18 + r))), (3, .int (c (2 + r)))]) (st₂ := []) ?_ rfl rfl
        refine z_iload_n (pc := 89) gX 3 dX4_size_89 rfl rfl ?_
        refine z_aload_n (pc := 90) gX 0 dX4_size_90 rfl rfl ?_
        refine z_iload_n (pc := 91) gX 1 dX4_size_91 rfl rfl ?_
        refine z_cMV (pc := 92) gX hAX [.int (nI r)] [.int (c (2 + r))] [0, 1, 2] [] (fun A1 => met_X4_stands l D B0 A1 o ad (upd (upd (upd x 4 (nI (bgN t))) 4 (nI (bgN (bgN t)))) 4 (nI (bgN (bgN (bgN t))))) c (bgT (bgN (bgN t)) (bgT (bgN t) (bgT t tr 12) 11) 10) n r (bgN (bgN (bgN t))) (by first | assumption | omega) pk_us (by repeat (first | omega | refine bgN_le ?_ | refine bgs_le _ _ ?_))) q1683 q1685 qs45 q54 q1686 (zm 0 rfl) (ci := 4) rfl rfl hd_X4_stands ⟨rfl, rfl⟩ ⟨(Nat.le_of_ble_eq_true rfl), (Nat.le_of_ble_eq_true rfl)⟩ rfl rfl rfl rfl rfl (Nat.le_of_ble_eq_true rfl) ⟨(Nat.le_of_ble_eq_true rfl), (Nat.le_of_ble_eq_true rfl)⟩ dX4_size_92 ?_
        intro _ hu92
        refine z_re [0, 1, 2] [mOb o ad (upd (upd (upd (upd x 4 (nI (bgN t))) 4 (nI (bgN (bgN t)))) 4 (nI (bgN (bgN (bgN t))))) 4 (nI (bgs (stL c r) ((bgN (bgN (bgN t))), (bgT (bgN (bgN t)) (bgT (bgN t) (bgT t tr 12) 11) 10))).1)), [(ad 5, .inl (D.1 100, 25, .inl c))], [(ad 12, .inl (D.1 100, 16, .inl ((bgs (stL c r) ((bgN (bgN (bgN t))), (bgT (bgN (bgN t)) (bgT (bgN t) (bgT t tr 12) 11) 10))).2)))]] rfl rfl ?_
        refine z_eq (lv₂ := [(0, .ref o), (1, .int (nI r)), (2, .int (c (18 + r))), (3, .int (c (2 + r)))]) (st₂ := [.int (stV c r), .int (c (2 + r))]) ?_ rfl rfl
        refine z_iadd (pc := 95) gX dX4_size_95 ?_
        refine z_istore (pc := 96) gX [1, 2, 3, 4, 0] [(0, .ref o), (1, .int (nI r)), (2, .int (c (18 + r))), (3, .int (c (2 + r))), (4, .int ((c (2 + r)) + (stV c r)))] dX4_size_96 (by decide) rfl ?_
        refine z_iload_n (pc := 98) gX 2 dX4_size_98 rfl rfl ?_
        refine z_iconst (pc := 99) gX 2 dX4_size_99 (by decide) ?_
        refine z_icmp_ne (pc := 100) gX 109 dX4_size_100 (by decide) (fun c100 => ?_) (fun c100 => ?_)
        · skip
          refine z_iload (pc := 109) gX 4 dX4_size_109 rfl ?_
          exact z_rim gX hQX () trivial (zsv (by grind [szV])) (by simp only [upd_upd]; rw [show szL c r = 12 :: 11 :: 10 :: stL c r by grind [szL]]; rfl) (by first | decide | omega) (by first | decide | omega) dX4_size_111
        · skip
          refine z_iload (pc := 103) gX 4 dX4_size_103 rfl ?_
          refine z_ineg (pc := 105) gX dX4_size_105 ?_
          refine z_goto (pc := 106) gX 111 dX4_size_106 (by decide) ?_
          exact z_rim gX hQX () trivial (zsv (by grind [szV])) (by simp only [upd_upd]; rw [show szL c r = 12 :: 11 :: 10 :: stL c r by grind [szL]]; rfl) (by first | decide | omega) (by first | decide | omega) dX4_size_111
    · skip
      refine z_aload_n (pc := 35) gX 0 dX4_size_35 rfl rfl ?_
      refine z_bipush (pc := 36) gX 13 dX4_size_36 (by decide) ?_
      refine z_cMV (pc := 38) gX hAX [.int 13] [] [0, 2] [1] (fun A1 => met_X4_begins l D B0 A1 o ad x tr t 13 ht ht16) q1679 q1681 qs44 q54 q1682 (zm 0 rfl) (ci := 4) rfl rfl hd_X4_begins ⟨rfl, rfl⟩ ⟨(Nat.le_of_ble_eq_true rfl), (Nat.le_of_ble_eq_true rfl)⟩ rfl rfl rfl rfl rfl (Nat.le_of_ble_eq_true rfl) ⟨(Nat.le_of_ble_eq_true rfl), (Nat.le_of_ble_eq_true rfl)⟩ dX4_size_38 ?_
      intro _ hu38
      refine z_re [0, 2, 1] [mOb o ad (upd x 4 (nI (bgN t))), [(ad 5, .inl (D.1 100, 25, .inl c))], [(ad 12, .inl (D.1 100, 16, .inl (bgT t tr 13)))]] rfl rfl ?_
      refine z_eq (lv₂ := [(0, .ref o), (1, .int (nI r)), (2, .int (c (18 + r))), (3, .int (c (2 + r)))]) (st₂ := []) ?_ rfl rfl
      refine z_aload_n (pc := 41) gX 0 dX4_size_41 rfl rfl ?_
      refine z_bipush (pc := 42) gX 10 dX4_size_42 (by decide) ?_
      refine z_cMV (pc := 44) gX hAX [.int 10] [] [0, 2] [1] (fun A1 => met_X4_begins l D B0 A1 o ad (upd x 4 (nI (bgN t))) (bgT t tr 13) (bgN t) 10 pk_us (by repeat (first | omega | refine bgN_le ?_ | refine bgs_le _ _ ?_))) q1679 q1681 qs44 q54 q1682 (zm 0 rfl) (ci := 4) rfl rfl hd_X4_begins ⟨rfl, rfl⟩ ⟨(Nat.le_of_ble_eq_true rfl), (Nat.le_of_ble_eq_true rfl)⟩ rfl rfl rfl rfl rfl (Nat.le_of_ble_eq_true rfl) ⟨(Nat.le_of_ble_eq_true rfl), (Nat.le_of_ble_eq_true rfl)⟩ dX4_size_44 ?_
      intro _ hu44
      refine z_re [0, 2, 1] [mOb o ad (upd (upd x 4 (nI (bgN t))) 4 (nI (bgN (bgN t)))), [(ad 5, .inl (D.1 100, 25, .inl c))], [(ad 12, .inl (D.1 100, 16, .inl (bgT (bgN t) (bgT t tr 13) 10)))]] rfl rfl ?_
      refine z_eq (lv₂ := [(0, .ref o), (1, .int (nI r)), (2, .int (c (18 + r))), (3, .int (c (2 + r)))]) (st₂ := []) ?_ rfl rfl
      refine z_iload_n (pc := 47) gX 2 dX4_size_47 rfl rfl ?_
      refine z_iconst (pc := 48) gX 5 dX4_size_48 (by decide) ?_
      refine z_icmp_ne (pc := 49) gX 61 dX4_size_49 (by decide) (fun c49 => ?_) (fun c49 => ?_)
      · skip
        refine z_iload_n (pc := 61) gX 3 dX4_size_61 rfl rfl ?_
        refine z_bipush (pc := 62) gX 100 dX4_size_62 (by decide) ?_
        refine z_isub (pc := 64) gX dX4_size_64 ?_
        exact z_rim gX hQX () trivial (zsv (by grind [szV])) (by simp only [upd_upd]; rw [show szL c r = [13, 10] by grind [szL]]; rfl) (by first | decide | omega) (by first | decide | omega) dX4_size_65
      · skip
        refine z_iconst (pc := 52) gX 2 dX4_size_52 (by decide) ?_
        refine z_iload_n (pc := 53) gX 3 dX4_size_53 rfl rfl ?_
        refine z_bipush (pc := 54) gX 100 dX4_size_54 (by decide) ?_
        refine z_isub (pc := 56) gX dX4_size_56 ?_
        refine z_imul (pc := 57) gX dX4_size_57 ?_
        refine z_goto (pc := 58) gX 65 dX4_size_58 (by decide) ?_
        exact z_rim gX hQX () trivial (zsv (by grind [szV])) (by simp only [upd_upd]; rw [show szL c r = [13, 10] by grind [szL]]; rfl) (by first | decide | omega) (by first | decide | omega) dX4_size_65
  · skip
    refine z_aload_n (pc := 24) gX 0 dX4_size_24 rfl rfl ?_
    refine z_bipush (pc := 25) gX 14 dX4_size_25 (by decide) ?_
    refine z_cMV (pc := 27) gX hAX [.int 14] [] [0, 2] [1] (fun A1 => met_X4_begins l D B0 A1 o ad x tr t 14 ht ht16) q1679 q1681 qs44 q54 q1682 (zm 0 rfl) (ci := 4) rfl rfl hd_X4_begins ⟨rfl, rfl⟩ ⟨(Nat.le_of_ble_eq_true rfl), (Nat.le_of_ble_eq_true rfl)⟩ rfl rfl rfl rfl rfl (Nat.le_of_ble_eq_true rfl) ⟨(Nat.le_of_ble_eq_true rfl), (Nat.le_of_ble_eq_true rfl)⟩ dX4_size_27 ?_
    intro _ hu27
    refine z_re [0, 2, 1] [mOb o ad (upd x 4 (nI (bgN t))), [(ad 5, .inl (D.1 100, 25, .inl c))], [(ad 12, .inl (D.1 100, 16, .inl (bgT t tr 14)))]] rfl rfl ?_
    refine z_eq (lv₂ := [(0, .ref o), (1, .int (nI r)), (2, .int (c (18 + r))), (3, .int (c (2 + r)))]) (st₂ := []) ?_ rfl rfl
    refine z_iload_n (pc := 30) gX 2 dX4_size_30 rfl rfl ?_
    refine z_iconst (pc := 31) gX 4 dX4_size_31 (by decide) ?_
    refine z_icmp_lt (pc := 32) gX 66 dX4_size_32 (by decide) (fun c32 => ?_) (fun c32 => ?_)
    · skip
      refine z_iload_n (pc := 66) gX 2 dX4_size_66 rfl rfl ?_
      refine z_iconst (pc := 67) gX 2 dX4_size_67 (by decide) ?_
      refine z_icmp_ne (pc := 68) gX 77 dX4_size_68 (by decide) (fun c68 => ?_) (fun c68 => ?_)
      · skip
        refine z_aload_n (pc := 77) gX 0 dX4_size_77 rfl rfl ?_
        refine z_bipush (pc := 78) gX 11 dX4_size_78 (by decide) ?_
        refine z_cMV (pc := 80) gX hAX [.int 11] [] [0, 2] [1] (fun A1 => met_X4_begins l D B0 A1 o ad (upd x 4 (nI (bgN t))) (bgT t tr 14) (bgN t) 11 pk_us (by repeat (first | omega | refine bgN_le ?_ | refine bgs_le _ _ ?_))) q1679 q1681 qs44 q54 q1682 (zm 0 rfl) (ci := 4) rfl rfl hd_X4_begins ⟨rfl, rfl⟩ ⟨(Nat.le_of_ble_eq_true rfl), (Nat.le_of_ble_eq_true rfl)⟩ rfl rfl rfl rfl rfl (Nat.le_of_ble_eq_true rfl) ⟨(Nat.le_of_ble_eq_true rfl), (Nat.le_of_ble_eq_true rfl)⟩ dX4_size_80 ?_
        intro _ hu80
        refine z_re [0, 2, 1] [mOb o ad (upd (upd x 4 (nI (bgN t))) 4 (nI (bgN (bgN t)))), [(ad 5, .inl (D.1 100, 25, .inl c))], [(ad 12, .inl (D.1 100, 16, .inl (bgT (bgN t) (bgT t tr 14) 11)))]] rfl rfl ?_
        refine z_eq (lv₂ := [(0, .ref o), (1, .int (nI r)), (2, .int (c (18 + r))), (3, .int (c (2 + r)))]) (st₂ := []) ?_ rfl rfl
        refine z_aload_n (pc := 83) gX 0 dX4_size_83 rfl rfl ?_
        refine z_bipush (pc := 84) gX 10 dX4_size_84 (by decide) ?_
        refine z_cMV (pc := 86) gX hAX [.int 10] [] [0, 2] [1] (fun A1 => met_X4_begins l D B0 A1 o ad (upd (upd x 4 (nI (bgN t))) 4 (nI (bgN (bgN t)))) (bgT (bgN t) (bgT t tr 14) 11) (bgN (bgN t)) 10 pk_us (by repeat (first | omega | refine bgN_le ?_ | refine bgs_le _ _ ?_))) q1679 q1681 qs44 q54 q1682 (zm 0 rfl) (ci := 4) rfl rfl hd_X4_begins ⟨rfl, rfl⟩ ⟨(Nat.le_of_ble_eq_true rfl), (Nat.le_of_ble_eq_true rfl)⟩ rfl rfl rfl rfl rfl (Nat.le_of_ble_eq_true rfl) ⟨(Nat.le_of_ble_eq_true rfl), (Nat.le_of_ble_eq_true rfl)⟩ dX4_size_86 ?_
        intro _ hu86
        refine z_re [0, 2, 1] [mOb o ad (upd (upd (upd x 4 (nI (bgN t))) 4 (nI (bgN (bgN t)))) 4 (nI (bgN (bgN (bgN t))))), [(ad 5, .inl (D.1 100, 25, .inl c))], [(ad 12, .inl (D.1 100, 16, .inl (bgT (bgN (bgN t)) (bgT (bgN t) (bgT t tr 14) 11) 10)))]] rfl rfl ?_
        refine z_eq (lv₂ := [(0, .ref o), (1, .int (nI r)), (2, .int (c (18 + r))), (3, .int (c (2 + r)))]) (st₂ := []) ?_ rfl rfl
        refine z_iload_n (pc := 89) gX 3 dX4_size_89 rfl rfl ?_
        refine z_aload_n (pc := 90) gX 0 dX4_size_90 rfl rfl ?_
        refine z_iload_n (pc := 91) gX 1 dX4_size_91 rfl rfl ?_
        refine z_cMV (pc := 92) gX hAX [.int (nI r)] [.int (c (2 + r))] [0, 1, 2] [] (fun A1 => met_X4_stands l D B0 A1 o ad (upd (upd (upd x 4 (nI (bgN t))) 4 (nI (bgN (bgN t)))) 4 (nI (bgN (bgN (bgN t))))) c (bgT (bgN (bgN t)) (bgT (bgN t) (bgT t tr 14) 11) 10) n r (bgN (bgN (bgN t))) (by first | assumption | omega) pk_us (by repeat (first | omega | refine bgN_le ?_ | refine bgs_le _ _ ?_))) q1683 q1685 qs45 q54 q1686 (zm 0 rfl) (ci := 4) rfl rfl hd_X4_stands ⟨rfl, rfl⟩ ⟨(Nat.le_of_ble_eq_true rfl), (Nat.le_of_ble_eq_true rfl)⟩ rfl rfl rfl rfl rfl (Nat.le_of_ble_eq_true rfl) ⟨(Nat.le_of_ble_eq_true rfl), (Nat.le_of_ble_eq_true rfl)⟩ dX4_size_92 ?_
        intro _ hu92
        refine z_re [0, 1, 2] [mOb o ad (upd (upd (upd (upd x 4 (nI (bgN t))) 4 (nI (bgN (bgN t)))) 4 (nI (bgN (bgN (bgN t))))) 4 (nI (bgs (stL c r) ((bgN (bgN (bgN t))), (bgT (bgN (bgN t)) (bgT (bgN t) (bgT t tr 14) 11) 10))).1)), [(ad 5, .inl (D.1 100, 25, .inl c))], [(ad 12, .inl (D.1 100, 16, .inl ((bgs (stL c r) ((bgN (bgN (bgN t))), (bgT (bgN (bgN t)) (bgT (bgN t) (bgT t tr 14) 11) 10))).2)))]] rfl rfl ?_
        refine z_eq (lv₂ := [(0, .ref o), (1, .int (nI r)), (2, .int (c (18 + r))), (3, .int (c (2 + r)))]) (st₂ := [.int (stV c r), .int (c (2 + r))]) ?_ rfl rfl
        refine z_iadd (pc := 95) gX dX4_size_95 ?_
        refine z_istore (pc := 96) gX [1, 2, 3, 4, 0] [(0, .ref o), (1, .int (nI r)), (2, .int (c (18 + r))), (3, .int (c (2 + r))), (4, .int ((c (2 + r)) + (stV c r)))] dX4_size_96 (by decide) rfl ?_
        refine z_iload_n (pc := 98) gX 2 dX4_size_98 rfl rfl ?_
        refine z_iconst (pc := 99) gX 2 dX4_size_99 (by decide) ?_
        refine z_icmp_ne (pc := 100) gX 109 dX4_size_100 (by decide) (fun c100 => ?_) (fun c100 => ?_)
        · skip
          refine z_iload (pc := 109) gX 4 dX4_size_109 rfl ?_
          exact z_rim gX hQX () trivial (zsv (by grind [szV])) (by exact absurd c32 (by rw [c21]; decide)) (by first | decide | omega) (by first | decide | omega) dX4_size_111
        · skip
          refine z_iload (pc := 103) gX 4 dX4_size_103 rfl ?_
          refine z_ineg (pc := 105) gX dX4_size_105 ?_
          refine z_goto (pc := 106) gX 111 dX4_size_106 (by decide) ?_
          exact z_rim gX hQX () trivial (zsv (by grind [szV])) (by exact absurd c32 (by rw [c21]; decide)) (by first | decide | omega) (by first | decide | omega) dX4_size_111
      · skip
        refine z_aload_n (pc := 71) gX 0 dX4_size_71 rfl rfl ?_
        refine z_bipush (pc := 72) gX 12 dX4_size_72 (by decide) ?_
        refine z_cMV (pc := 74) gX hAX [.int 12] [] [0, 2] [1] (fun A1 => met_X4_begins l D B0 A1 o ad (upd x 4 (nI (bgN t))) (bgT t tr 14) (bgN t) 12 pk_us (by repeat (first | omega | refine bgN_le ?_ | refine bgs_le _ _ ?_))) q1679 q1681 qs44 q54 q1682 (zm 0 rfl) (ci := 4) rfl rfl hd_X4_begins ⟨rfl, rfl⟩ ⟨(Nat.le_of_ble_eq_true rfl), (Nat.le_of_ble_eq_true rfl)⟩ rfl rfl rfl rfl rfl (Nat.le_of_ble_eq_true rfl) ⟨(Nat.le_of_ble_eq_true rfl), (Nat.le_of_ble_eq_true rfl)⟩ dX4_size_74 ?_
        intro _ hu74
        refine z_re [0, 2, 1] [mOb o ad (upd (upd x 4 (nI (bgN t))) 4 (nI (bgN (bgN t)))), [(ad 5, .inl (D.1 100, 25, .inl c))], [(ad 12, .inl (D.1 100, 16, .inl (bgT (bgN t) (bgT t tr 14) 12)))]] rfl rfl ?_
        refine z_eq (lv₂ := [(0, .ref o), (1, .int (nI r)), (2, .int (c (18 + r))), (3, .int (c (2 + r)))]) (st₂ := []) ?_ rfl rfl
        refine z_aload_n (pc := 77) gX 0 dX4_size_77 rfl rfl ?_
        refine z_bipush (pc := 78) gX 11 dX4_size_78 (by decide) ?_
        refine z_cMV (pc := 80) gX hAX [.int 11] [] [0, 2] [1] (fun A1 => met_X4_begins l D B0 A1 o ad (upd (upd x 4 (nI (bgN t))) 4 (nI (bgN (bgN t)))) (bgT (bgN t) (bgT t tr 14) 12) (bgN (bgN t)) 11 pk_us (by repeat (first | omega | refine bgN_le ?_ | refine bgs_le _ _ ?_))) q1679 q1681 qs44 q54 q1682 (zm 0 rfl) (ci := 4) rfl rfl hd_X4_begins ⟨rfl, rfl⟩ ⟨(Nat.le_of_ble_eq_true rfl), (Nat.le_of_ble_eq_true rfl)⟩ rfl rfl rfl rfl rfl (Nat.le_of_ble_eq_true rfl) ⟨(Nat.le_of_ble_eq_true rfl), (Nat.le_of_ble_eq_true rfl)⟩ dX4_size_80 ?_
        intro _ hu80
        refine z_re [0, 2, 1] [mOb o ad (upd (upd (upd x 4 (nI (bgN t))) 4 (nI (bgN (bgN t)))) 4 (nI (bgN (bgN (bgN t))))), [(ad 5, .inl (D.1 100, 25, .inl c))], [(ad 12, .inl (D.1 100, 16, .inl (bgT (bgN (bgN t)) (bgT (bgN t) (bgT t tr 14) 12) 11)))]] rfl rfl ?_
        refine z_eq (lv₂ := [(0, .ref o), (1, .int (nI r)), (2, .int (c (18 + r))), (3, .int (c (2 + r)))]) (st₂ := []) ?_ rfl rfl
        refine z_aload_n (pc := 83) gX 0 dX4_size_83 rfl rfl ?_
        refine z_bipush (pc := 84) gX 10 dX4_size_84 (by decide) ?_
        refine z_cMV (pc := 86) gX hAX [.int 10] [] [0, 2] [1] (fun A1 => met_X4_begins l D B0 A1 o ad (upd (upd (upd x 4 (nI (bgN t))) 4 (nI (bgN (bgN t)))) 4 (nI (bgN (bgN (bgN t))))) (bgT (bgN (bgN t)) (bgT (bgN t) (bgT t tr 14) 12) 11) (bgN (bgN (bgN t))) 10 pk_us (by repeat (first | omega | refine bgN_le ?_ | refine bgs_le _ _ ?_))) q1679 q1681 qs44 q54 q1682 (zm 0 rfl) (ci := 4) rfl rfl hd_X4_begins ⟨rfl, rfl⟩ ⟨(Nat.le_of_ble_eq_true rfl), (Nat.le_of_ble_eq_true rfl)⟩ rfl rfl rfl rfl rfl (Nat.le_of_ble_eq_true rfl) ⟨(Nat.le_of_ble_eq_true rfl), (Nat.le_of_ble_eq_true rfl)⟩ dX4_size_86 ?_
        intro _ hu86
        refine z_re [0, 2, 1] [mOb o ad (upd (upd (upd (upd x 4 (nI (bgN t))) 4 (nI (bgN (bgN t)))) 4 (nI (bgN (bgN (bgN t))))) 4 (nI (bgN (bgN (bgN (bgN t)))))), [(ad 5, .inl (D.1 100, 25, .inl c))], [(ad 12, .inl (D.1 100, 16, .inl (bgT (bgN (bgN (bgN t))) (bgT (bgN (bgN t)) (bgT (bgN t) (bgT t tr 14) 12) 11) 10)))]] rfl rfl ?_
        refine z_eq (lv₂ := [(0, .ref o), (1, .int (nI r)), (2, .int (c (18 + r))), (3, .int (c (2 + r)))]) (st₂ := []) ?_ rfl rfl
        refine z_iload_n (pc := 89) gX 3 dX4_size_89 rfl rfl ?_
        refine z_aload_n (pc := 90) gX 0 dX4_size_90 rfl rfl ?_
        refine z_iload_n (pc := 91) gX 1 dX4_size_91 rfl rfl ?_
        refine z_cMV (pc := 92) gX hAX [.int (nI r)] [.int (c (2 + r))] [0, 1, 2] [] (fun A1 => met_X4_stands l D B0 A1 o ad (upd (upd (upd (upd x 4 (nI (bgN t))) 4 (nI (bgN (bgN t)))) 4 (nI (bgN (bgN (bgN t))))) 4 (nI (bgN (bgN (bgN (bgN t)))))) c (bgT (bgN (bgN (bgN t))) (bgT (bgN (bgN t)) (bgT (bgN t) (bgT t tr 14) 12) 11) 10) n r (bgN (bgN (bgN (bgN t)))) (by first | assumption | omega) pk_us (by repeat (first | omega | refine bgN_le ?_ | refine bgs_le _ _ ?_))) q1683 q1685 qs45 q54 q1686 (zm 0 rfl) (ci := 4) rfl rfl hd_X4_stands ⟨rfl, rfl⟩ ⟨(Nat.le_of_ble_eq_true rfl), (Nat.le_of_ble_eq_true rfl)⟩ rfl rfl rfl rfl rfl (Nat.le_of_ble_eq_true rfl) ⟨(Nat.le_of_ble_eq_true rfl), (Nat.le_of_ble_eq_true rfl)⟩ dX4_size_92 ?_
        intro _ hu92
        refine z_re [0, 1, 2] [mOb o ad (upd (upd (upd (upd (upd x 4 (nI (bgN t))) 4 (nI (bgN (bgN t)))) 4 (nI (bgN (bgN (bgN t))))) 4 (nI (bgN (bgN (bgN (bgN t)))))) 4 (nI (bgs (stL c r) ((bgN (bgN (bgN (bgN t)))), (bgT (bgN (bgN (bgN t))) (bgT (bgN (bgN t)) (bgT (bgN t) (bgT t tr 14) 12) 11) 10))).1)), [(ad 5, .inl (D.1 100, 25, .inl c))], [(ad 12, .inl (D.1 100, 16, .inl ((bgs (stL c r) ((bgN (bgN (bgN (bgN t)))), (bgT (bgN (bgN (bgN t))) (bgT (bgN (bgN t)) (bgT (bgN t) (bgT t tr 14) 12) 11) 10))).2)))]] rfl rfl ?_
        refine z_eq (lv₂ := [(0, .ref o), (1, .int (nI r)), (2, .int (c (18 + r))), (3, .int (c (2 + r)))]) (st₂ := [.int (stV c r), .int (c (2 + r))]) ?_ rfl rfl
        refine z_iadd (pc := 95) gX dX4_size_95 ?_
        refine z_istore (pc := 96) gX [1, 2, 3, 4, 0] [(0, .ref o), (1, .int (nI r)), (2, .int (c (18 + r))), (3, .int (c (2 + r))), (4, .int ((c (2 + r)) + (stV c r)))] dX4_size_96 (by decide) rfl ?_
        refine z_iload_n (pc := 98) gX 2 dX4_size_98 rfl rfl ?_
        refine z_iconst (pc := 99) gX 2 dX4_size_99 (by decide) ?_
        refine z_icmp_ne (pc := 100) gX 109 dX4_size_100 (by decide) (fun c100 => ?_) (fun c100 => ?_)
        · skip
          refine z_iload (pc := 109) gX 4 dX4_size_109 rfl ?_
          exact z_rim gX hQX () trivial (zsv (by grind [szV])) (by exact absurd c32 (by rw [c21]; decide)) (by first | decide | omega) (by first | decide | omega) dX4_size_111
        · skip
          refine z_iload (pc := 103) gX 4 dX4_size_103 rfl ?_
          refine z_ineg (pc := 105) gX dX4_size_105 ?_
          refine z_goto (pc := 106) gX 111 dX4_size_106 (by decide) ?_
          exact z_rim gX hQX () trivial (zsv (by grind [szV])) (by exact absurd c32 (by rw [c21]; decide)) (by first | decide | omega) (by first | decide | omega) dX4_size_111
    · skip
      refine z_aload_n (pc := 35) gX 0 dX4_size_35 rfl rfl ?_
      refine z_bipush (pc := 36) gX 13 dX4_size_36 (by decide) ?_
      refine z_cMV (pc := 38) gX hAX [.int 13] [] [0, 2] [1] (fun A1 => met_X4_begins l D B0 A1 o ad (upd x 4 (nI (bgN t))) (bgT t tr 14) (bgN t) 13 pk_us (by repeat (first | omega | refine bgN_le ?_ | refine bgs_le _ _ ?_))) q1679 q1681 qs44 q54 q1682 (zm 0 rfl) (ci := 4) rfl rfl hd_X4_begins ⟨rfl, rfl⟩ ⟨(Nat.le_of_ble_eq_true rfl), (Nat.le_of_ble_eq_true rfl)⟩ rfl rfl rfl rfl rfl (Nat.le_of_ble_eq_true rfl) ⟨(Nat.le_of_ble_eq_true rfl), (Nat.le_of_ble_eq_true rfl)⟩ dX4_size_38 ?_
      intro _ hu38
      refine z_re [0, 2, 1] [mOb o ad (upd (upd x 4 (nI (bgN t))) 4 (nI (bgN (bgN t)))), [(ad 5, .inl (D.1 100, 25, .inl c))], [(ad 12, .inl (D.1 100, 16, .inl (bgT (bgN t) (bgT t tr 14) 13)))]] rfl rfl ?_
      refine z_eq (lv₂ := [(0, .ref o), (1, .int (nI r)), (2, .int (c (18 + r))), (3, .int (c (2 + r)))]) (st₂ := []) ?_ rfl rfl
      refine z_aload_n (pc := 41) gX 0 dX4_size_41 rfl rfl ?_
      refine z_bipush (pc := 42) gX 10 dX4_size_42 (by decide) ?_
      refine z_cMV (pc := 44) gX hAX [.int 10] [] [0, 2] [1] (fun A1 => met_X4_begins l D B0 A1 o ad (upd (upd x 4 (nI (bgN t))) 4 (nI (bgN (bgN t)))) (bgT (bgN t) (bgT t tr 14) 13) (bgN (bgN t)) 10 pk_us (by repeat (first | omega | refine bgN_le ?_ | refine bgs_le _ _ ?_))) q1679 q1681 qs44 q54 q1682 (zm 0 rfl) (ci := 4) rfl rfl hd_X4_begins ⟨rfl, rfl⟩ ⟨(Nat.le_of_ble_eq_true rfl), (Nat.le_of_ble_eq_true rfl)⟩ rfl rfl rfl rfl rfl (Nat.le_of_ble_eq_true rfl) ⟨(Nat.le_of_ble_eq_true rfl), (Nat.le_of_ble_eq_true rfl)⟩ dX4_size_44 ?_
      intro _ hu44
      refine z_re [0, 2, 1] [mOb o ad (upd (upd (upd x 4 (nI (bgN t))) 4 (nI (bgN (bgN t)))) 4 (nI (bgN (bgN (bgN t))))), [(ad 5, .inl (D.1 100, 25, .inl c))], [(ad 12, .inl (D.1 100, 16, .inl (bgT (bgN (bgN t)) (bgT (bgN t) (bgT t tr 14) 13) 10)))]] rfl rfl ?_
      refine z_eq (lv₂ := [(0, .ref o), (1, .int (nI r)), (2, .int (c (18 + r))), (3, .int (c (2 + r)))]) (st₂ := []) ?_ rfl rfl
      refine z_iload_n (pc := 47) gX 2 dX4_size_47 rfl rfl ?_
      refine z_iconst (pc := 48) gX 5 dX4_size_48 (by decide) ?_
      refine z_icmp_ne (pc := 49) gX 61 dX4_size_49 (by decide) (fun c49 => ?_) (fun c49 => ?_)
      · skip
        refine z_iload_n (pc := 61) gX 3 dX4_size_61 rfl rfl ?_
        refine z_bipush (pc := 62) gX 100 dX4_size_62 (by decide) ?_
        refine z_isub (pc := 64) gX dX4_size_64 ?_
        exact z_rim gX hQX () trivial (zsv (by grind [szV])) (by simp only [upd_upd]; rw [show szL c r = [14, 13, 10] by grind [szL]]; rfl) (by first | decide | omega) (by first | decide | omega) dX4_size_65
      · skip
        refine z_iconst (pc := 52) gX 2 dX4_size_52 (by decide) ?_
        refine z_iload_n (pc := 53) gX 3 dX4_size_53 rfl rfl ?_
        refine z_bipush (pc := 54) gX 100 dX4_size_54 (by decide) ?_
        refine z_isub (pc := 56) gX dX4_size_56 ?_
        refine z_imul (pc := 57) gX dX4_size_57 ?_
        refine z_goto (pc := 58) gX 65 dX4_size_58 (by decide) ?_
        exact z_rim gX hQX () trivial (zsv (by grind [szV])) (by simp only [upd_upd]; rw [show szL c r = [14, 13, 10] by grind [szL]]; rfl) (by first | decide | omega) (by first | decide | omega) dX4_size_65
theorem hd_X4_size : zHd yX4_size 1 := by unfold zHd; decide +kernel

set_option maxHeartbeats 4000000 in
theorem met_X4_ask (l : Launch) (D : va_G) (B0 : Nat) (A : Nat → Prop) (o : Nat) (ad : Nat → Nat) (x : Nat → Int32) (c : Nat → Int32) (tr : Nat → Int32) (n : Nat) (r : Int32) (w : Int32) (hn : c 17 = nI n) (hn7 : n ≤ 7) : Met l yX4_ask (ws_ yX4_ask cX4_ask 3 (some .int)) (zRm 4 0 0) (va_Pc [.ref o, .int r, .int w] (zPre B0 D A [mOb o ad x, [(ad 5, .inl (D.1 100, 25, .inl c))], [(ad 12, .inl (D.1 100, 16, .inl tr))]])) (zQ (S := Int32 × (Nat → Int32) × (Nat → Int32)) (fun u => (fun (r_ : Int32) (x1 : Nat → Int32) (tr1 : Nat → Int32) => (r_, x1, tr1) = mAsk c x tr r w) u.1 u.2.1 u.2.2) (fun u => (fun (r_ : Int32) (x1 : Nat → Int32) (tr1 : Nat → Int32) => some (.int r_)) u.1 u.2.1 u.2.2) (fun u => (fun (r_ : Int32) (x1 : Nat → Int32) (tr1 : Nat → Int32) => [mOb o ad x1, [(ad 5, .inl (D.1 100, 25, .inl c))], [(ad 12, .inl (D.1 100, 16, .inl tr1))]]) u.1 u.2.1 u.2.2) D A) 0 0 A := by
  refine z_entry (by decide +kernel) (Nat.le_of_ble_eq_true rfl) (fun pX eX sX mX argsX blX mtX cX QX hQX gX hAX hnm => ?_)
  refine z_eq (lv₂ := [(0, .ref o), (1, .int r), (2, .int w)]) (st₂ := []) ?_ rfl rfl
  refine z_aload_n (pc := 0) gX 0 dX4_ask_0 rfl rfl ?_
  refine z_iload_n (pc := 1) gX 1 dX4_ask_1 rfl rfl ?_
  refine z_cOV (pc := 2) gX (zI_ok gX hAX) [.int r] [] [0, 1] (met_X4_isRider l D B0 o ad x c r ) q1564 q1566 qs38 q54 q1567 (zm 0 rfl) (ci := 4) rfl rfl hd_X4_isRider ⟨rfl, rfl⟩ ⟨(Nat.le_of_ble_eq_true rfl), (Nat.le_of_ble_eq_true rfl)⟩ rfl rfl rfl (Nat.le_of_ble_eq_true rfl) ⟨(Nat.le_of_ble_eq_true rfl), (Nat.le_of_ble_eq_true rfl)⟩ dX4_ask_2 ?_
  intro _ hu2
  refine z_eq (lv₂ := [(0, .ref o), (1, .int r), (2, .int w)]) (st₂ := [.int (bI (mIn r 0 (c 17 - 1)))]) ?_ rfl rfl
  refine z_if_eq (pc := 5) gX 17 dX4_ask_5 (by decide) (fun c5 => ?_) (fun c5 => ?_)
  · skip
    have k5 : (mIn r 0 (c 17 - 1)) = false := bI_eq0 c5
    refine z_ldc (pc := 17) gX q1455 dX4_ask_17 ?_
    exact z_rim gX hQX ((-1000001), x, tr) (by simp [mAsk, k5]) rfl rfl (by first | decide | omega) (by first | decide | omega) dX4_ask_19
  · skip
    have k5 : (mIn r 0 (c 17 - 1)) = true := bI_ne0 c5
    obtain ⟨j, hjn, rfl⟩ := riderN k5 hn hn7
    refine z_iload_n (pc := 8) gX 2 dX4_ask_8 rfl rfl ?_
    refine z_iconst (pc := 9) gX 0 dX4_ask_9 (by decide) ?_
    refine z_iconst (pc := 10) gX 1 dX4_ask_10 (by decide) ?_
    refine z_cOS (pc := 11) gX (zI_ok gX hAX) [.int w, .int 0, .int 1] [] [] (met_X4_in l D B0 w 0 1 ) q1452 q1453 q54 q1454 hd_X4_in ⟨rfl, rfl⟩ ⟨(Nat.le_of_ble_eq_true rfl), (Nat.le_of_ble_eq_true rfl)⟩ rfl rfl rfl (Nat.le_of_ble_eq_true rfl) ⟨(Nat.le_of_ble_eq_true rfl), (Nat.le_of_ble_eq_true rfl)⟩ dX4_ask_11 ?_
    intro _ hu11
    refine z_eq (lv₂ := [(0, .ref o), (1, .int (nI j)), (2, .int w)]) (st₂ := [.int (bI (mIn w 0 1))]) ?_ rfl rfl
    refine z_if_ne (pc := 14) gX 20 dX4_ask_14 (by decide) (fun c14 => ?_) (fun c14 => ?_)
    · skip
      have k14 : (mIn w 0 1) = true := bI_ne0 c14
      refine z_aload_n (pc := 20) gX 0 dX4_ask_20 rfl rfl ?_
      refine z_iconst (pc := 21) gX 0 dX4_ask_21 (by decide) ?_
      refine z_put (pc := 22) gX hAX 0 rfl (ci := 4) (C := RX4) (T := TX4) (N := 20) rfl in_X4 tyX4 tyX4_ok nmX4 17 (by decide) q1400 (fun _ h => h) rfl (v := .int 0) rfl rfl (Nat.le_of_ble_eq_true rfl) [mOb o ad (upd x 4 0), [(ad 5, .inl (D.1 100, 25, .inl c))], [(ad 12, .inl (D.1 100, 16, .inl tr))]] rfl dX4_ask_22 ?_
      refine z_iload_n (pc := 25) gX 2 dX4_ask_25 rfl rfl ?_
      refine z_if_ne (pc := 26) gX 35 dX4_ask_26 (by decide) (fun c26 => ?_) (fun c26 => ?_)
      · skip
        refine z_aload_n (pc := 35) gX 0 dX4_ask_35 rfl rfl ?_
        refine z_get (pc := 36) gX (zI_ok gX hAX) (zm 0 rfl) (ci := 4) (C := RX4) (T := TX4) (N := 20) rfl in_X4 8 (by decide) q1391 (fun _ h => h) (v := .ref (ad 5)) rfl dX4_ask_36 ?_
        refine z_bipush (pc := 39) gX 18 dX4_ask_39 (by decide) ?_
        refine z_iload_n (pc := 41) gX 1 dX4_ask_41 rfl rfl ?_
        refine z_iadd (pc := 42) gX dX4_ask_42 ?_
        refine z_top (nI (18 + j)) (nI_add 18 j) ?_
        refine z_iald (pc := 43) gX (zI_ok gX hAX) (j := (18 + j)) (n := 25) (f := c) (zm 1 rfl) (by omega) (by decide) dX4_ask_43 ?_
        refine z_iconst (pc := 44) gX 4 dX4_ask_44 (by decide) ?_
        refine z_icmp_ge (pc := 45) gX 54 dX4_ask_45 (by decide) (fun c45 => ?_) (fun c45 => ?_)
        · skip
          refine z_aload_n (pc := 54) gX 0 dX4_ask_54 rfl rfl ?_
          refine z_bipush (pc := 55) gX 23 dX4_ask_55 (by decide) ?_
          refine z_cMV (pc := 57) gX hAX [.int 23] [] [0, 2] [1] (fun A1 => met_X4_begins l D B0 A1 o ad (upd x 4 0) tr 0 23 pk_us (by repeat (first | omega | refine bgN_le ?_ | refine bgs_le _ _ ?_))) q1679 q1681 qs44 q54 q1682 (zm 0 rfl) (ci := 4) rfl rfl hd_X4_begins ⟨rfl, rfl⟩ ⟨(Nat.le_of_ble_eq_true rfl), (Nat.le_of_ble_eq_true rfl)⟩ rfl rfl rfl rfl rfl (Nat.le_of_ble_eq_true rfl) ⟨(Nat.le_of_ble_eq_true rfl), (Nat.le_of_ble_eq_true rfl)⟩ dX4_ask_57 ?_
          intro _ hu57
          refine z_re [0, 2, 1] [mOb o ad (upd (upd x 4 0) 4 (nI (bgN 0))), [(ad 5, .inl (D.1 100, 25, .inl c))], [(ad 12, .inl (D.1 100, 16, .inl (bgT 0 tr 23)))]] rfl rfl ?_
          refine z_eq (lv₂ := [(0, .ref o), (1, .int (nI j)), (2, .int w)]) (st₂ := []) ?_ rfl rfl
          refine z_aload_n (pc := 60) gX 0 dX4_ask_60 rfl rfl ?_
          refine z_bipush (pc := 61) gX 20 dX4_ask_61 (by decide) ?_
          refine z_cMV (pc := 63) gX hAX [.int 20] [] [0, 2] [1] (fun A1 => met_X4_begins l D B0 A1 o ad (upd (upd x 4 0) 4 (nI (bgN 0))) (bgT 0 tr 23) (bgN 0) 20 pk_us (by repeat (first | omega | refine bgN_le ?_ | refine bgs_le _ _ ?_))) q1679 q1681 qs44 q54 q1682 (zm 0 rfl) (ci := 4) rfl rfl hd_X4_begins ⟨rfl, rfl⟩ ⟨(Nat.le_of_ble_eq_true rfl), (Nat.le_of_ble_eq_true rfl)⟩ rfl rfl rfl rfl rfl (Nat.le_of_ble_eq_true rfl) ⟨(Nat.le_of_ble_eq_true rfl), (Nat.le_of_ble_eq_true rfl)⟩ dX4_ask_63 ?_
          intro _ hu63
          refine z_re [0, 2, 1] [mOb o ad (upd (upd (upd x 4 0) 4 (nI (bgN 0))) 4 (nI (bgN (bgN 0)))), [(ad 5, .inl (D.1 100, 25, .inl c))], [(ad 12, .inl (D.1 100, 16, .inl (bgT (bgN 0) (bgT 0 tr 23) 20)))]] rfl rfl ?_
          refine z_eq (lv₂ := [(0, .ref o), (1, .int (nI j)), (2, .int w)]) (st₂ := []) ?_ rfl rfl
          refine z_iload_n (pc := 66) gX 1 dX4_ask_66 rfl rfl ?_
          refine z_aload_n (pc := 67) gX 0 dX4_ask_67 rfl rfl ?_
          refine z_iload_n (pc := 68) gX 1 dX4_ask_68 rfl rfl ?_
          refine z_cMV (pc := 69) gX hAX [.int (nI j)] [.int (nI j)] [0, 1, 2] [] (fun A1 => met_X4_size l D B0 A1 o ad (upd (upd (upd x 4 0) 4 (nI (bgN 0))) 4 (nI (bgN (bgN 0)))) c (bgT (bgN 0) (bgT 0 tr 23) 20) n j (bgN (bgN 0)) (by first | assumption | omega) pk_us (by repeat (first | omega | refine bgN_le ?_ | refine bgs_le _ _ ?_))) q1675 q1677 qs43 q54 q1678 (zm 0 rfl) (ci := 4) rfl rfl hd_X4_size ⟨rfl, rfl⟩ ⟨(Nat.le_of_ble_eq_true rfl), (Nat.le_of_ble_eq_true rfl)⟩ rfl rfl rfl rfl rfl (Nat.le_of_ble_eq_true rfl) ⟨(Nat.le_of_ble_eq_true rfl), (Nat.le_of_ble_eq_true rfl)⟩ dX4_ask_69 ?_
          intro _ hu69
          refine z_re [0, 1, 2] [mOb o ad (upd (upd (upd (upd x 4 0) 4 (nI (bgN 0))) 4 (nI (bgN (bgN 0)))) 4 (nI (bgs (szL c j) ((bgN (bgN 0)), (bgT (bgN 0) (bgT 0 tr 23) 20))).1)), [(ad 5, .inl (D.1 100, 25, .inl c))], [(ad 12, .inl (D.1 100, 16, .inl ((bgs (szL c j) ((bgN (bgN 0)), (bgT (bgN 0) (bgT 0 tr 23) 20))).2)))]] rfl rfl ?_
          refine z_eq (lv₂ := [(0, .ref o), (1, .int (nI j)), (2, .int w)]) (st₂ := [.int (szV c j), .int (nI j)]) ?_ rfl rfl
          refine z_isub (pc := 72) gX dX4_ask_72 ?_
          exact z_rim gX hQX ((nI j) - (szV c j), upd (upd (upd (upd x 4 0) 4 (nI (bgN 0))) 4 (nI (bgN (bgN 0)))) 4 (nI (bgs (szL c j) ((bgN (bgN 0)), (bgT (bgN 0) (bgT 0 tr 23) 20))).1), (bgs (szL c j) ((bgN (bgN 0)), (bgT (bgN 0) (bgT 0 tr 23) 20))).2) (by simp only [mAsk, k5, k14, Bool.and_self, if_true, nI_clamp (show j < 2 ^ 31 by omega), upd_upd]; rw [if_neg c26, if_neg (Int32.not_lt.mpr c45)]; rfl) rfl rfl (by first | decide | omega) (by first | decide | omega) dX4_ask_73
        · skip
          refine z_aload_n (pc := 48) gX 0 dX4_ask_48 rfl rfl ?_
          refine z_iload_n (pc := 49) gX 1 dX4_ask_49 rfl rfl ?_
          refine z_cMV (pc := 50) gX hAX [.int (nI j)] [] [0, 1, 2] [] (fun A1 => met_X4_stands l D B0 A1 o ad (upd x 4 0) c tr n j 0 (by first | assumption | omega) pk_us (by repeat (first | omega | refine bgN_le ?_ | refine bgs_le _ _ ?_))) q1683 q1685 qs45 q54 q1686 (zm 0 rfl) (ci := 4) rfl rfl hd_X4_stands ⟨rfl, rfl⟩ ⟨(Nat.le_of_ble_eq_true rfl), (Nat.le_of_ble_eq_true rfl)⟩ rfl rfl rfl rfl rfl (Nat.le_of_ble_eq_true rfl) ⟨(Nat.le_of_ble_eq_true rfl), (Nat.le_of_ble_eq_true rfl)⟩ dX4_ask_50 ?_
          intro _ hu50
          refine z_re [0, 1, 2] [mOb o ad (upd (upd x 4 0) 4 (nI (bgs (stL c j) (0, tr)).1)), [(ad 5, .inl (D.1 100, 25, .inl c))], [(ad 12, .inl (D.1 100, 16, .inl ((bgs (stL c j) (0, tr)).2)))]] rfl rfl ?_
          refine z_eq (lv₂ := [(0, .ref o), (1, .int (nI j)), (2, .int w)]) (st₂ := [.int (stV c j)]) ?_ rfl rfl
          exact z_rim gX hQX (stV c j, upd (upd x 4 0) 4 (nI (bgs (stL c j) (0, tr)).1), (bgs (stL c j) (0, tr)).2) (by simp only [mAsk, k5, k14, Bool.and_self, if_true, nI_clamp (show j < 2 ^ 31 by omega), upd_upd]; rw [if_neg c26, if_pos (Int32.not_le.mp c45)]) rfl rfl (by first | decide | omega) (by first | decide | omega) dX4_ask_53
      · skip
        refine z_aload_n (pc := 29) gX 0 dX4_ask_29 rfl rfl ?_
        refine z_iload_n (pc := 30) gX 1 dX4_ask_30 rfl rfl ?_
        refine z_cMV (pc := 31) gX hAX [.int (nI j)] [] [0, 1, 2] [] (fun A1 => met_X4_size l D B0 A1 o ad (upd x 4 0) c tr n j 0 (by first | assumption | omega) pk_us (by repeat (first | omega | refine bgN_le ?_ | refine bgs_le _ _ ?_))) q1675 q1677 qs43 q54 q1678 (zm 0 rfl) (ci := 4) rfl rfl hd_X4_size ⟨rfl, rfl⟩ ⟨(Nat.le_of_ble_eq_true rfl), (Nat.le_of_ble_eq_true rfl)⟩ rfl rfl rfl rfl rfl (Nat.le_of_ble_eq_true rfl) ⟨(Nat.le_of_ble_eq_true rfl), (Nat.le_of_ble_eq_true rfl)⟩ dX4_ask_31 ?_
        intro _ hu31
        refine z_re [0, 1, 2] [mOb o ad (upd (upd x 4 0) 4 (nI (bgs (szL c j) (0, tr)).1)), [(ad 5, .inl (D.1 100, 25, .inl c))], [(ad 12, .inl (D.1 100, 16, .inl ((bgs (szL c j) (0, tr)).2)))]] rfl rfl ?_
        refine z_eq (lv₂ := [(0, .ref o), (1, .int (nI j)), (2, .int w)]) (st₂ := [.int (szV c j)]) ?_ rfl rfl
        exact z_rim gX hQX (szV c j, upd (upd x 4 0) 4 (nI (bgs (szL c j) (0, tr)).1), (bgs (szL c j) (0, tr)).2) (by simp only [mAsk, k5, k14, Bool.and_self, if_true, nI_clamp (show j < 2 ^ 31 by omega), upd_upd]; rw [if_pos c26]) rfl rfl (by first | decide | omega) (by first | decide | omega) dX4_ask_34
    · skip
      have k14 : (mIn w 0 1) = false := bI_eq0 c14
      refine z_ldc (pc := 17) gX q1455 dX4_ask_17 ?_
      exact z_rim gX hQX ((-1000001), x, tr) (by simp [mAsk, k5, k14]) rfl rfl (by first | decide | omega) (by first | decide | omega) dX4_ask_19
theorem hd_X4_ask : zHd yX4_ask 2 := by unfold zHd; decide +kernel

set_option maxHeartbeats 4000000 in
theorem met_X4_trace (l : Launch) (D : va_G) (B0 : Nat) (o : Nat) (ad : Nat → Nat) (x : Nat → Int32) (tr : Nat → Int32) (t : Nat) (i : Int32) (ht : x 4 = nI t) (ht16 : t ≤ 16) : Met l yX4_trace (ws_ yX4_trace cX4_trace 2 (some .int)) (zRm 2 0 0) (va_Pc [.ref o, .int i] (zPreO B0 D [mOb o ad x, [(ad 12, .inl (D.1 100, 16, .inl tr))]])) (zQo (S := Unit) (fun _ => True) (fun _ => some (.int (mTrace t tr i)))) 0 0 (fun _ => False) := by
  refine z_entryo (by decide +kernel) (Nat.le_of_ble_eq_true rfl) (fun pX eX sX mX argsX blX mtX cX QX hQX gX => ?_)
  refine z_eq (lv₂ := [(0, .ref o), (1, .int i)]) (st₂ := []) ?_ rfl rfl
  refine z_iload_n (pc := 0) gX 1 dX4_trace_0 rfl rfl ?_
  refine z_iconst (pc := 1) gX 0 dX4_trace_1 (by decide) ?_
  refine z_aload_n (pc := 2) gX 0 dX4_trace_2 rfl rfl ?_
  refine z_get (pc := 3) gX (zIo_ok gX) (zm 0 rfl) (ci := 4) (C := RX4) (T := TX4) (N := 20) rfl in_X4 17 (by decide) q1400 (fun _ h => h) (v := .int (x 4)) rfl dX4_trace_3 ?_
  refine z_top (nI t) ht ?_
  refine z_iconst (pc := 6) gX 1 dX4_trace_6 (by decide) ?_
  refine z_isub (pc := 7) gX dX4_trace_7 ?_
  refine z_cOS (pc := 8) gX (zIo_ok gX) [.int i, .int 0, .int ((nI t) - 1)] [] [] (met_X4_in l D B0 i 0 ((nI t) - 1) ) q1452 q1453 q54 q1454 hd_X4_in ⟨rfl, rfl⟩ ⟨(Nat.le_of_ble_eq_true rfl), (Nat.le_of_ble_eq_true rfl)⟩ rfl rfl rfl (Nat.le_of_ble_eq_true rfl) ⟨(Nat.le_of_ble_eq_true rfl), (Nat.le_of_ble_eq_true rfl)⟩ dX4_trace_8 ?_
  intro _ hu8
  refine z_eq (lv₂ := [(0, .ref o), (1, .int i)]) (st₂ := [.int (bI (mIn i 0 ((nI t) - 1)))]) ?_ rfl rfl
  refine z_if_eq (pc := 11) gX 23 dX4_trace_11 (by decide) (fun c11 => ?_) (fun c11 => ?_)
  · skip
    have k11 : (mIn i 0 ((nI t) - 1)) = false := bI_eq0 c11
    refine z_ldc (pc := 23) gX q1604 dX4_trace_23 ?_
    exact z_rio gX hQX (by simp [mTrace, k11]) dX4_trace_25
  · skip
    have k11 : (mIn i 0 ((nI t) - 1)) = true := bI_ne0 c11
    obtain ⟨j, hj, rfl⟩ := ixN k11 (by omega)
    refine z_aload_n (pc := 14) gX 0 dX4_trace_14 rfl rfl ?_
    refine z_get (pc := 15) gX (zIo_ok gX) (zm 0 rfl) (ci := 4) (C := RX4) (T := TX4) (N := 20) rfl in_X4 16 (by decide) q1399 (fun _ h => h) (v := .ref (ad 12)) rfl dX4_trace_15 ?_
    refine z_iload_n (pc := 18) gX 1 dX4_trace_18 rfl rfl ?_
    refine z_iald (pc := 19) gX (zIo_ok gX) (j := j) (n := 16) (f := tr) (zm 1 rfl) (by omega) (by decide) dX4_trace_19 ?_
    refine z_goto (pc := 20) gX 25 dX4_trace_20 (by decide) ?_
    exact z_rio gX hQX (by simp [mTrace, k11, nI_clamp (show j < 2 ^ 31 by omega)]) dX4_trace_25
theorem hd_X4_trace : zHd yX4_trace 1 := by unfold zHd; decide +kernel

set_option maxHeartbeats 4000000 in
theorem met_X4_count (l : Launch) (D : va_G) (B0 : Nat) (o : Nat) (ad : Nat → Nat) (x : Nat → Int32) (sz : Nat → Int32) (c : Nat → Int32) (n : Nat) (w : Int32) (hn : c 17 = nI n) (hn7 : n ≤ 7) : Met l yX4_count (ws_ yX4_count cX4_count 4 (some .int)) (zRm 2 0 0) (va_Pc [.ref o, .int w] (zPreO B0 D [mOb o ad x, [(ad 0, .inl (D.1 100, 8, .inl sz))], [(ad 5, .inl (D.1 100, 25, .inl c))]])) (zQo (S := Unit) (fun _ => True) (fun _ => some (.int (mCount n x sz c w)))) 0 0 (fun _ => False) := by
  refine z_entryo (by decide +kernel) (Nat.le_of_ble_eq_true rfl) (fun pX eX sX mX argsX blX mtX cX QX hQX gX => ?_)
  refine z_eq (lv₂ := [(0, .ref o), (1, .int w)]) (st₂ := []) ?_ rfl rfl
  refine z_iconst (pc := 0) gX 0 dX4_count_0 (by decide) ?_
  refine z_istore_n (pc := 1) gX [1, 2, 0] [(0, .ref o), (1, .int w), (2, .int 0)] dX4_count_1 rfl (by decide) rfl ?_
  refine z_iload_n (pc := 2) gX 1 dX4_count_2 rfl rfl ?_
  by_cases c3_0 : w = 0
  · refine z_tableIn (pc := 3) gX 56 dX4_count_3 (by rw [c3_0]; decide) (by rw [c3_0]; decide) (by rw [c3_0]; rfl) (by decide) ?_
    refine z_iconst (pc := 56) gX 0 dX4_count_56 (by decide) ?_
    refine z_istore_n (pc := 57) gX [1, 2, 3, 0] [(0, .ref o), (1, .int w), (2, .int 0), (3, .int 0)] dX4_count_57 rfl (by decide) rfl ?_
    have L58 : ∀ (n58 : Nat) (i58 : Nat) (m58 : Nat), (i58 ≤ 8) → (m58 = cntB (fun k => !decide (sz k < 0)) i58) → (m58 ≤ i58) → 8 - i58 < n58 → zJ pX l eX (zRm 2 0 0) sX mX argsX blX mtX cX QX 4 (zIo D sX [mOb o ad x, [(ad 0, .inl (D.1 100, 8, .inl sz))], [(ad 5, .inl (D.1 100, 25, .inl c))]]) 0 0 58 [(0, .ref o), (1, .int w), (2, .int (nI m58)), (3, .int (nI i58))] [] := by
      intro n58
      induction n58 with
      | zero => exact fun i58 m58 hi58 hm58_ hb58 hm58 => absurd hm58 (Nat.not_lt_zero _)
      | succ n58 ih58 =>
        intro i58 m58 hi58 hm58_ hb58 hm58
        refine z_iload_n (pc := 58) gX 3 dX4_count_58 rfl rfl ?_
        refine z_bipush (pc := 59) gX 8 dX4_count_59 (by decide) ?_
        refine z_icmp_ge (pc := 61) gX 87 dX4_count_61 (by decide) (fun c61 => ?_) (fun c61 => ?_)
        · skip
          have k61 : 8 ≤ i58 := (zn_le (a := 8) (b := i58) (by omega) (by omega)).mp c61
          refine z_iload_n (pc := 87) gX 2 dX4_count_87 rfl rfl ?_
          exact z_rio gX hQX (by rw [hm58_, show i58 = 8 by omega]; simp only [mCount, if_pos c3_0]) dX4_count_88
        · skip
          have k61 : i58 < 8 := (zn_nle (a := 8) (b := i58) (by omega) (by omega)).mp c61
          refine z_iload_n (pc := 64) gX 2 dX4_count_64 rfl rfl ?_
          refine z_aload_n (pc := 65) gX 0 dX4_count_65 rfl rfl ?_
          refine z_get (pc := 66) gX (zIo_ok gX) (zm 0 rfl) (ci := 4) (C := RX4) (T := TX4) (N := 20) rfl in_X4 0 (by decide) q1383 (fun _ h => h) (v := .ref (ad 0)) rfl dX4_count_66 ?_
          refine z_iload_n (pc := 69) gX 3 dX4_count_69 rfl rfl ?_
          refine z_iald (pc := 70) gX (zIo_ok gX) (j := i58) (n := 8) (f := sz) (zm 1 rfl) (by omega) (by decide) dX4_count_70 ?_
          refine z_if_ge (pc := 71) gX 78 dX4_count_71 (by decide) (fun c71 => ?_) (fun c71 => ?_)
          · skip
            refine z_iconst (pc := 78) gX 1 dX4_count_78 (by decide) ?_
            refine z_iadd (pc := 79) gX dX4_count_79 ?_
            refine z_top (nI (m58 + 1)) (nI_add m58 1) ?_
            refine z_istore_n (pc := 80) gX [1, 2, 0, 3] [(0, .ref o), (1, .int w), (2, .int (nI (m58 + 1))), (3, .int (nI i58))] dX4_count_80 rfl (by decide) rfl ?_
            refine z_iinc (pc := 81) gX 3 (nI (i58 + 1)) [1, 2, 3, 0] [(0, .ref o), (1, .int w), (2, .int (nI (m58 + 1))), (3, .int (nI (i58 + 1)))] dX4_count_81 rfl (nI_1 _) (by decide) rfl ?_
            refine z_goto (pc := 84) gX 58 dX4_count_84 (by decide) ?_
            exact ih58 (i58 + 1) (m58 + 1) (by omega) (by simp only [cntB]; rw [← hm58_]; simp [Int32.not_lt.mpr c71]) (by omega) (by omega)
          · skip
            refine z_iconst (pc := 74) gX 0 dX4_count_74 (by decide) ?_
            refine z_goto (pc := 75) gX 79 dX4_count_75 (by decide) ?_
            refine z_iadd (pc := 79) gX dX4_count_79 ?_
            refine z_top (nI m58) (nI_add m58 0) ?_
            refine z_istore_n (pc := 80) gX [1, 2, 0, 3] [(0, .ref o), (1, .int w), (2, .int (nI m58)), (3, .int (nI i58))] dX4_count_80 rfl (by decide) rfl ?_
            refine z_iinc (pc := 81) gX 3 (nI (i58 + 1)) [1, 2, 3, 0] [(0, .ref o), (1, .int w), (2, .int (nI m58)), (3, .int (nI (i58 + 1)))] dX4_count_81 rfl (nI_1 _) (by decide) rfl ?_
            refine z_goto (pc := 84) gX 58 dX4_count_84 (by decide) ?_
            exact ih58 (i58 + 1) m58 (by omega) (by simp only [cntB]; rw [← hm58_]; simp [Int32.not_le.mp c71]) (by omega) (by omega)
    exact L58 ((8 - 0) + 1) 0 0 (by omega) rfl (by omega) (Nat.lt_succ_self _)
  by_cases c3_1 : w = 1
  · refine z_tableIn (pc := 3) gX 89 dX4_count_3 (by rw [c3_1]; decide) (by rw [c3_1]; decide) (by rw [c3_1]; rfl) (by decide) ?_
    refine z_aload_n (pc := 89) gX 0 dX4_count_89 rfl rfl ?_
    refine z_get (pc := 90) gX (zIo_ok gX) (zm 0 rfl) (ci := 4) (C := RX4) (T := TX4) (N := 20) rfl in_X4 8 (by decide) q1391 (fun _ h => h) (v := .ref (ad 5)) rfl dX4_count_90 ?_
    refine z_bipush (pc := 93) gX 17 dX4_count_93 (by decide) ?_
    refine z_top (nI 17) rfl ?_
    refine z_iald (pc := 95) gX (zIo_ok gX) (j := 17) (n := 25) (f := c) (zm 2 rfl) (by omega) (by decide) dX4_count_95 ?_
    exact z_rio gX hQX (by simp [mCount, c3_1]) dX4_count_96
  by_cases c3_2 : w = 2
  · refine z_tableIn (pc := 3) gX 97 dX4_count_3 (by rw [c3_2]; decide) (by rw [c3_2]; decide) (by rw [c3_2]; rfl) (by decide) ?_
    refine z_aload_n (pc := 97) gX 0 dX4_count_97 rfl rfl ?_
    refine z_get (pc := 98) gX (zIo_ok gX) (zm 0 rfl) (ci := 4) (C := RX4) (T := TX4) (N := 20) rfl in_X4 8 (by decide) q1391 (fun _ h => h) (v := .ref (ad 5)) rfl dX4_count_98 ?_
    refine z_bipush (pc := 101) gX 16 dX4_count_101 (by decide) ?_
    refine z_top (nI 16) rfl ?_
    refine z_iald (pc := 103) gX (zIo_ok gX) (j := 16) (n := 25) (f := c) (zm 2 rfl) (by omega) (by decide) dX4_count_103 ?_
    exact z_rio gX hQX (by simp [mCount, c3_2]) dX4_count_104
  by_cases c3_3 : w = 3
  · refine z_tableIn (pc := 3) gX 105 dX4_count_3 (by rw [c3_3]; decide) (by rw [c3_3]; decide) (by rw [c3_3]; rfl) (by decide) ?_
    refine z_aload_n (pc := 105) gX 0 dX4_count_105 rfl rfl ?_
    refine z_get (pc := 106) gX (zIo_ok gX) (zm 0 rfl) (ci := 4) (C := RX4) (T := TX4) (N := 20) rfl in_X4 8 (by decide) q1391 (fun _ h => h) (v := .ref (ad 5)) rfl dX4_count_106 ?_
    refine z_iconst (pc := 109) gX 0 dX4_count_109 (by decide) ?_
    refine z_top (nI 0) rfl ?_
    refine z_iald (pc := 110) gX (zIo_ok gX) (j := 0) (n := 25) (f := c) (zm 2 rfl) (by omega) (by decide) dX4_count_110 ?_
    exact z_rio gX hQX (by simp [mCount, c3_3]) dX4_count_111
  by_cases c3_4 : w = 4
  · refine z_tableIn (pc := 3) gX 112 dX4_count_3 (by rw [c3_4]; decide) (by rw [c3_4]; decide) (by rw [c3_4]; rfl) (by decide) ?_
    refine z_aload_n (pc := 112) gX 0 dX4_count_112 rfl rfl ?_
    refine z_get (pc := 113) gX (zIo_ok gX) (zm 0 rfl) (ci := 4) (C := RX4) (T := TX4) (N := 20) rfl in_X4 8 (by decide) q1391 (fun _ h => h) (v := .ref (ad 5)) rfl dX4_count_113 ?_
    refine z_iconst (pc := 116) gX 1 dX4_count_116 (by decide) ?_
    refine z_top (nI 1) rfl ?_
    refine z_iald (pc := 117) gX (zIo_ok gX) (j := 1) (n := 25) (f := c) (zm 2 rfl) (by omega) (by decide) dX4_count_117 ?_
    exact z_rio gX hQX (by simp [mCount, c3_4]) dX4_count_118
  by_cases c3_5 : w = 5
  · refine z_tableIn (pc := 3) gX 119 dX4_count_3 (by rw [c3_5]; decide) (by rw [c3_5]; decide) (by rw [c3_5]; rfl) (by decide) ?_
    refine z_iconst (pc := 119) gX 0 dX4_count_119 (by decide) ?_
    refine z_istore_n (pc := 120) gX [1, 2, 3, 0] [(0, .ref o), (1, .int w), (2, .int 0), (3, .int 0)] dX4_count_120 rfl (by decide) rfl ?_
    have L121 : ∀ (n121 : Nat) (i121 : Nat) (m121 : Nat), (i121 ≤ n) → (m121 = cntB (fun r => decide (c (2 + r) = -1)) i121) → (m121 ≤ i121) → n - i121 < n121 → zJ pX l eX (zRm 2 0 0) sX mX argsX blX mtX cX QX 4 (zIo D sX [mOb o ad x, [(ad 0, .inl (D.1 100, 8, .inl sz))], [(ad 5, .inl (D.1 100, 25, .inl c))]]) 0 0 121 [(0, .ref o), (1, .int w), (2, .int (nI m121)), (3, .int (nI i121))] [] := by
      intro n121
      induction n121 with
      | zero => exact fun i121 m121 hi121 hm121_ hb121 hm121 => absurd hm121 (Nat.not_lt_zero _)
      | succ n121 ih121 =>
        intro i121 m121 hi121 hm121_ hb121 hm121
        refine z_iload_n (pc := 121) gX 3 dX4_count_121 rfl rfl ?_
        refine z_aload_n (pc := 122) gX 0 dX4_count_122 rfl rfl ?_
        refine z_get (pc := 123) gX (zIo_ok gX) (zm 0 rfl) (ci := 4) (C := RX4) (T := TX4) (N := 20) rfl in_X4 8 (by decide) q1391 (fun _ h => h) (v := .ref (ad 5)) rfl dX4_count_123 ?_
        refine z_bipush (pc := 126) gX 17 dX4_count_126 (by decide) ?_
        refine z_top (nI 17) rfl ?_
        refine z_iald (pc := 128) gX (zIo_ok gX) (j := 17) (n := 25) (f := c) (zm 2 rfl) (by omega) (by decide) dX4_count_128 ?_
        refine z_top (nI n) hn ?_
        refine z_icmp_ge (pc := 129) gX 158 dX4_count_129 (by decide) (fun c129 => ?_) (fun c129 => ?_)
        · skip
          have k129 : n ≤ i121 := (zn_le (a := n) (b := i121) (by omega) (by omega)).mp c129
          refine z_iload_n (pc := 158) gX 2 dX4_count_158 rfl rfl ?_
          exact z_rio gX hQX (by rw [hm121_, show i121 = n by omega]; simp [mCount, c3_5]) dX4_count_159
        · skip
          have k129 : i121 < n := (zn_nle (a := n) (b := i121) (by omega) (by omega)).mp c129
          refine z_iload_n (pc := 132) gX 2 dX4_count_132 rfl rfl ?_
          refine z_aload_n (pc := 133) gX 0 dX4_count_133 rfl rfl ?_
          refine z_get (pc := 134) gX (zIo_ok gX) (zm 0 rfl) (ci := 4) (C := RX4) (T := TX4) (N := 20) rfl in_X4 8 (by decide) q1391 (fun _ h => h) (v := .ref (ad 5)) rfl dX4_count_134 ?_
          refine z_iconst (pc := 137) gX 2 dX4_count_137 (by decide) ?_
          refine z_iload_n (pc := 138) gX 3 dX4_count_138 rfl rfl ?_
          refine z_iadd (pc := 139) gX dX4_count_139 ?_
          refine z_top (nI (2 + i121)) (nI_add 2 i121) ?_
          refine z_iald (pc := 140) gX (zIo_ok gX) (j := (2 + i121)) (n := 25) (f := c) (zm 2 rfl) (by omega) (by decide) dX4_count_140 ?_
          refine z_iconst (pc := 141) gX (-1) dX4_count_141 (by decide) ?_
          refine z_icmp_ne (pc := 142) gX 149 dX4_count_142 (by decide) (fun c142 => ?_) (fun c142 => ?_)
          · skip
            refine z_iconst (pc := 149) gX 0 dX4_count_149 (by decide) ?_
            refine z_iadd (pc := 150) gX dX4_count_150 ?_
            refine z_top (nI m121) (nI_add m121 0) ?_
            refine z_istore_n (pc := 151) gX [1, 2, 0, 3] [(0, .ref o), (1, .int w), (2, .int (nI m121)), (3, .int (nI i121))] dX4_count_151 rfl (by decide) rfl ?_
            refine z_iinc (pc := 152) gX 3 (nI (i121 + 1)) [1, 2, 3, 0] [(0, .ref o), (1, .int w), (2, .int (nI m121)), (3, .int (nI (i121 + 1)))] dX4_count_152 rfl (nI_1 _) (by decide) rfl ?_
            refine z_goto (pc := 155) gX 121 dX4_count_155 (by decide) ?_
            exact ih121 (i121 + 1) m121 (by omega) (by simp only [cntB]; rw [← hm121_]; simp [c142]) (by omega) (by omega)
          · skip
            refine z_iconst (pc := 145) gX 1 dX4_count_145 (by decide) ?_
            refine z_goto (pc := 146) gX 150 dX4_count_146 (by decide) ?_
            refine z_iadd (pc := 150) gX dX4_count_150 ?_
            refine z_top (nI (m121 + 1)) (nI_add m121 1) ?_
            refine z_istore_n (pc := 151) gX [1, 2, 0, 3] [(0, .ref o), (1, .int w), (2, .int (nI (m121 + 1))), (3, .int (nI i121))] dX4_count_151 rfl (by decide) rfl ?_
            refine z_iinc (pc := 152) gX 3 (nI (i121 + 1)) [1, 2, 3, 0] [(0, .ref o), (1, .int w), (2, .int (nI (m121 + 1))), (3, .int (nI (i121 + 1)))] dX4_count_152 rfl (nI_1 _) (by decide) rfl ?_
            refine z_goto (pc := 155) gX 121 dX4_count_155 (by decide) ?_
            exact ih121 (i121 + 1) (m121 + 1) (by omega) (by simp only [cntB]; rw [← hm121_]; simp [c142]) (by omega) (by omega)
    exact L121 ((n - 0) + 1) 0 0 (by omega) rfl (by omega) (Nat.lt_succ_self _)
  by_cases c3_6 : w = 6
  · refine z_tableIn (pc := 3) gX 160 dX4_count_3 (by rw [c3_6]; decide) (by rw [c3_6]; decide) (by rw [c3_6]; rfl) (by decide) ?_
    refine z_iconst (pc := 160) gX 0 dX4_count_160 (by decide) ?_
    refine z_istore_n (pc := 161) gX [1, 2, 3, 0] [(0, .ref o), (1, .int w), (2, .int 0), (3, .int 0)] dX4_count_161 rfl (by decide) rfl ?_
    have L162 : ∀ (n162 : Nat) (i162 : Nat) (m162 : Nat), (i162 ≤ n) → (m162 = cntB (fun r => mOn (c (2 + r))) i162) → (m162 ≤ i162) → n - i162 < n162 → zJ pX l eX (zRm 2 0 0) sX mX argsX blX mtX cX QX 4 (zIo D sX [mOb o ad x, [(ad 0, .inl (D.1 100, 8, .inl sz))], [(ad 5, .inl (D.1 100, 25, .inl c))]]) 0 0 162 [(0, .ref o), (1, .int w), (2, .int (nI m162)), (3, .int (nI i162))] [] := by
      intro n162
      induction n162 with
      | zero => exact fun i162 m162 hi162 hm162_ hb162 hm162 => absurd hm162 (Nat.not_lt_zero _)
      | succ n162 ih162 =>
        intro i162 m162 hi162 hm162_ hb162 hm162
        refine z_iload_n (pc := 162) gX 3 dX4_count_162 rfl rfl ?_
        refine z_aload_n (pc := 163) gX 0 dX4_count_163 rfl rfl ?_
        refine z_get (pc := 164) gX (zIo_ok gX) (zm 0 rfl) (ci := 4) (C := RX4) (T := TX4) (N := 20) rfl in_X4 8 (by decide) q1391 (fun _ h => h) (v := .ref (ad 5)) rfl dX4_count_164 ?_
        refine z_bipush (pc := 167) gX 17 dX4_count_167 (by decide) ?_
        refine z_top (nI 17) rfl ?_
        refine z_iald (pc := 169) gX (zIo_ok gX) (j := 17) (n := 25) (f := c) (zm 2 rfl) (by omega) (by decide) dX4_count_169 ?_
        refine z_top (nI n) hn ?_
        refine z_icmp_ge (pc := 170) gX 201 dX4_count_170 (by decide) (fun c170 => ?_) (fun c170 => ?_)
        · skip
          have k170 : n ≤ i162 := (zn_le (a := n) (b := i162) (by omega) (by omega)).mp c170
          refine z_iload_n (pc := 201) gX 2 dX4_count_201 rfl rfl ?_
          exact z_rio gX hQX (by rw [hm162_, show i162 = n by omega]; simp [mCount, c3_6]) dX4_count_202
        · skip
          have k170 : i162 < n := (zn_nle (a := n) (b := i162) (by omega) (by omega)).mp c170
          refine z_iload_n (pc := 173) gX 2 dX4_count_173 rfl rfl ?_
          refine z_aload_n (pc := 174) gX 0 dX4_count_174 rfl rfl ?_
          refine z_get (pc := 175) gX (zIo_ok gX) (zm 0 rfl) (ci := 4) (C := RX4) (T := TX4) (N := 20) rfl in_X4 8 (by decide) q1391 (fun _ h => h) (v := .ref (ad 5)) rfl dX4_count_175 ?_
          refine z_iconst (pc := 178) gX 2 dX4_count_178 (by decide) ?_
          refine z_iload_n (pc := 179) gX 3 dX4_count_179 rfl rfl ?_
          refine z_iadd (pc := 180) gX dX4_count_180 ?_
          refine z_top (nI (2 + i162)) (nI_add 2 i162) ?_
          refine z_iald (pc := 181) gX (zIo_ok gX) (j := (2 + i162)) (n := 25) (f := c) (zm 2 rfl) (by omega) (by decide) dX4_count_181 ?_
          refine z_cOS (pc := 182) gX (zIo_ok gX) [.int (c (2 + i162))] [.int (nI m162)] [] (met_X4_isOn l D B0 (c (2 + i162)) ) q1550 q1551 q54 q1552 hd_X4_isOn ⟨rfl, rfl⟩ ⟨(Nat.le_of_ble_eq_true rfl), (Nat.le_of_ble_eq_true rfl)⟩ rfl rfl rfl (Nat.le_of_ble_eq_true rfl) ⟨(Nat.le_of_ble_eq_true rfl), (Nat.le_of_ble_eq_true rfl)⟩ dX4_count_182 ?_
          intro _ hu182
          refine z_eq (lv₂ := [(0, .ref o), (1, .int w), (2, .int (nI m162)), (3, .int (nI i162))]) (st₂ := [.int (bI (mOn (c (2 + i162)))), .int (nI m162)]) ?_ rfl rfl
          refine z_if_eq (pc := 185) gX 192 dX4_count_185 (by decide) (fun c185 => ?_) (fun c185 => ?_)
          · skip
            have k185 : (mOn (c (2 + i162))) = false := bI_eq0 c185
            refine z_iconst (pc := 192) gX 0 dX4_count_192 (by decide) ?_
            refine z_iadd (pc := 193) gX dX4_count_193 ?_
            refine z_top (nI m162) (nI_add m162 0) ?_
            refine z_istore_n (pc := 194) gX [1, 2, 0, 3] [(0, .ref o), (1, .int w), (2, .int (nI m162)), (3, .int (nI i162))] dX4_count_194 rfl (by decide) rfl ?_
            refine z_iinc (pc := 195) gX 3 (nI (i162 + 1)) [1, 2, 3, 0] [(0, .ref o), (1, .int w), (2, .int (nI m162)), (3, .int (nI (i162 + 1)))] dX4_count_195 rfl (nI_1 _) (by decide) rfl ?_
            refine z_goto (pc := 198) gX 162 dX4_count_198 (by decide) ?_
            exact ih162 (i162 + 1) m162 (by omega) (by simp only [cntB]; rw [← hm162_]; simp [k185]) (by omega) (by omega)
          · skip
            have k185 : (mOn (c (2 + i162))) = true := bI_ne0 c185
            refine z_iconst (pc := 188) gX 1 dX4_count_188 (by decide) ?_
            refine z_goto (pc := 189) gX 193 dX4_count_189 (by decide) ?_
            refine z_iadd (pc := 193) gX dX4_count_193 ?_
            refine z_top (nI (m162 + 1)) (nI_add m162 1) ?_
            refine z_istore_n (pc := 194) gX [1, 2, 0, 3] [(0, .ref o), (1, .int w), (2, .int (nI (m162 + 1))), (3, .int (nI i162))] dX4_count_194 rfl (by decide) rfl ?_
            refine z_iinc (pc := 195) gX 3 (nI (i162 + 1)) [1, 2, 3, 0] [(0, .ref o), (1, .int w), (2, .int (nI (m162 + 1))), (3, .int (nI (i162 + 1)))] dX4_count_195 rfl (nI_1 _) (by decide) rfl ?_
            refine z_goto (pc := 198) gX 162 dX4_count_198 (by decide) ?_
            exact ih162 (i162 + 1) (m162 + 1) (by omega) (by simp only [cntB]; rw [← hm162_]; simp [k185]) (by omega) (by omega)
    exact L162 ((n - 0) + 1) 0 0 (by omega) rfl (by omega) (Nat.lt_succ_self _)
  by_cases c3_7 : w = 7
  · refine z_tableIn (pc := 3) gX 203 dX4_count_3 (by rw [c3_7]; decide) (by rw [c3_7]; decide) (by rw [c3_7]; rfl) (by decide) ?_
    refine z_aload_n (pc := 203) gX 0 dX4_count_203 rfl rfl ?_
    refine z_get (pc := 204) gX (zIo_ok gX) (zm 0 rfl) (ci := 4) (C := RX4) (T := TX4) (N := 20) rfl in_X4 8 (by decide) q1391 (fun _ h => h) (v := .ref (ad 5)) rfl dX4_count_204 ?_
    refine z_cOS (pc := 207) gX (zIo_ok gX) [.ref (ad 5)] [] [2] (met_X4_offIn l D B0 (ad 5) c n (by first | assumption | omega) (by first | assumption | omega)) q1553 q1554 q54 q1555 hd_X4_offIn ⟨rfl, rfl⟩ ⟨(Nat.le_of_ble_eq_true rfl), (Nat.le_of_ble_eq_true rfl)⟩ rfl rfl rfl (Nat.le_of_ble_eq_true rfl) ⟨(Nat.le_of_ble_eq_true rfl), (Nat.le_of_ble_eq_true rfl)⟩ dX4_count_207 ?_
    intro _ hu207
    refine z_eq (lv₂ := [(0, .ref o), (1, .int w), (2, .int 0)]) (st₂ := [.int (nI (cntV c 99 n))]) ?_ rfl rfl
    exact z_rio gX hQX (by simp [mCount, c3_7]) dX4_count_210
  by_cases c3_8 : w = 8
  · refine z_tableIn (pc := 3) gX 211 dX4_count_3 (by rw [c3_8]; decide) (by rw [c3_8]; decide) (by rw [c3_8]; rfl) (by decide) ?_
    refine z_aload_n (pc := 211) gX 0 dX4_count_211 rfl rfl ?_
    refine z_get (pc := 212) gX (zIo_ok gX) (zm 0 rfl) (ci := 4) (C := RX4) (T := TX4) (N := 20) rfl in_X4 13 (by decide) q1396 (fun _ h => h) (v := .int (x 3)) rfl dX4_count_212 ?_
    exact z_rio gX hQX (by simp [mCount, c3_8]) dX4_count_215
  by_cases c3_9 : w = 9
  · refine z_tableIn (pc := 3) gX 216 dX4_count_3 (by rw [c3_9]; decide) (by rw [c3_9]; decide) (by rw [c3_9]; rfl) (by decide) ?_
    refine z_aload_n (pc := 216) gX 0 dX4_count_216 rfl rfl ?_
    refine z_get (pc := 217) gX (zIo_ok gX) (zm 0 rfl) (ci := 4) (C := RX4) (T := TX4) (N := 20) rfl in_X4 6 (by decide) q1389 (fun _ h => h) (v := .int (x 1)) rfl dX4_count_217 ?_
    exact z_rio gX hQX (by simp [mCount, c3_9]) dX4_count_220
  have t3_0 : ¬ w.toInt = 0 := lv_neT c3_0 (by decide)
  have t3_1 : ¬ w.toInt = 1 := lv_neT c3_1 (by decide)
  have t3_2 : ¬ w.toInt = 2 := lv_neT c3_2 (by decide)
  have t3_3 : ¬ w.toInt = 3 := lv_neT c3_3 (by decide)
  have t3_4 : ¬ w.toInt = 4 := lv_neT c3_4 (by decide)
  have t3_5 : ¬ w.toInt = 5 := lv_neT c3_5 (by decide)
  have t3_6 : ¬ w.toInt = 6 := lv_neT c3_6 (by decide)
  have t3_7 : ¬ w.toInt = 7 := lv_neT c3_7 (by decide)
  have t3_8 : ¬ w.toInt = 8 := lv_neT c3_8 (by decide)
  have t3_9 : ¬ w.toInt = 9 := lv_neT c3_9 (by decide)
  refine z_tableOut (pc := 3) gX 221 dX4_count_3 (by omega) (by decide) ?_
  refine z_ldc (pc := 221) gX q1455 dX4_count_221 ?_
  exact z_rio gX hQX (by simp [mCount, c3_0, c3_1, c3_2, c3_3, c3_4, c3_5, c3_6, c3_7, c3_8, c3_9]) dX4_count_223
theorem hd_X4_count : zHd yX4_count 1 := by unfold zHd; decide +kernel

