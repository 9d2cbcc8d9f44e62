set_option maxRecDepth 100000
/-! THE REFERENCE: drawn, pace -/
def dwZ (z : Nat) : Nat := z * 16807 % 2147483647
def dwC1 (z1 : Nat) (c : Nat → Int32) : Nat → Int32 := upd c 1 (if z1 % 4 = 0 then nI (z1 % 3) else c 1)
def dwC2 (n z1 : Nat) (c : Nat → Int32) : Nat → Int32 := if c (2 + z1 % n) = 99 then upd (upd c (2 + z1 % n) (-1)) (9 + z1 % n) (nI (z1 % 2)) else c
def dwStep (n k : Nat) (t : Nat × Int32 × (Nat → Int32)) : Nat × Int32 × (Nat → Int32) :=
  (dwZ t.1, t.2.1 + (nI (cntV (mTick n k (dwC2 n (dwZ t.1) (dwC1 (dwZ t.1) t.2.2))) 99 n) - nI (cntV (dwC2 n (dwZ t.1) (dwC1 (dwZ t.1) t.2.2)) 99 n)), mTick n k (dwC2 n (dwZ t.1) (dwC1 (dwZ t.1) t.2.2)))
def dwS (n k : Nat) (t : Nat × Int32 × (Nat → Int32)) : Nat → Nat × Int32 × (Nat → Int32)
  | 0 => t
  | i + 1 => dwStep n k (dwS n k t i)
def mDrawn (n k : Nat) (c : Nat → Int32) (d sd w : Int32) : Int32 :=
  if 0 < c 17 then
    if (mIn d 0 60 && mIn sd 1 999999 && mIn w 0 1) = true then
      (if w = 0 then (dwS n k (sd.toNatClampNeg, 0, c) d.toNatClampNeg).2.1 else nI (cntV (dwS n k (sd.toNatClampNeg, 0, c) d.toNatClampNeg).2.2 99 n))
    else -1000001
  else -1000002
theorem lcmp0 {a : Nat} (h : a < 2147483648) : lg_cmp (lN a) 0 = 0 ↔ a = 0 := by
  have h1 : lN a < 0 ↔ a < 0 := pk_lLT (b := 0) (by omega) (by omega)
  have h2 : (0 : Int64) < lN a ↔ 0 < a := pk_lLT (a := 0) (by omega) (by omega)
  unfold lg_cmp
  by_cases h3 : a = 0
  · subst h3; decide
  · have h4 : (0 : Int64) < lN a := h2.mpr (by omega)
    simp [h4, h3]
theorem l2 {a b : Nat} (ha : a < 2147483648) (hb0 : 0 < b) (hb : b < 2147483648) : (lN a - lN a / lN b * lN b).toInt32 = nI (a % b) := by
  rw [pk_lRem (by omega) hb0 (by omega), lN_i]

set_option maxHeartbeats 4000000 in
theorem met_X4_drawn (l : Launch) (D : va_G) (B0 : Nat) (A : Nat → Prop) (o : Nat) (ad : Nat → Nat) (x : Nat → Int32) (c : Nat → Int32) (th : Nat → Int32) (wn : Nat → Int32) (n : Nat) (k : Nat) (d : Int32) (sd : Int32) (w : Int32) (hn : c 17 = nI n) (hn7 : n ≤ 7) (hk : c 16 = nI k) (hk12 : k ≤ 12) : Met l yX4_drawn (ws_ yX4_drawn cX4_drawn 10 (some .int)) (zRm 6 0 0) (va_Pc [.ref o, .int d, .int sd, .int w] (zPre B0 D A [mOb o ad x, [(ad 5, .inl (D.1 100, 25, .inl c))], [(ad 10, .inl (D.1 100, 25, .inl th))], [(ad 11, .inl (D.1 100, 25, .inl wn))]])) (zQ (S := (Nat → Int32) × (Nat → Int32)) (fun u => (fun (th1 : Nat → Int32) (wn1 : Nat → Int32) => True) u.1 u.2) (fun u => (fun (th1 : Nat → Int32) (wn1 : Nat → Int32) => some (.int (mDrawn n k c d sd w))) u.1 u.2) (fun u => (fun (th1 : Nat → Int32) (wn1 : Nat → Int32) => [mOb o ad x, [(ad 5, .inl (D.1 100, 25, .inl c))], [(ad 10, .inl (D.1 100, 25, .inl th1))], [(ad 11, .inl (D.1 100, 25, .inl wn1))]]) u.1 u.2) D A) 0 0 A := by
  refine z_entry (by decide +kernel) (Nat.le_of_ble_eq_true rfl) (fun pX eX sX mX argsX blX mtX cX QX hQX gX hAX hnm => ?_)
  refine z_eq (lv₂ := [(0, .ref o), (1, .int d), (2, .int sd), (3, .int w)]) (st₂ := []) ?_ rfl rfl
  refine z_aload_n (pc := 0) gX 0 dX4_drawn_0 rfl rfl ?_
  refine z_cOV (pc := 1) gX (zI_ok gX hAX) [] [] [0, 1] (met_X4_isStair l D B0 o ad x c ) q1528 q1530 qs35 q54 q1531 (zm 0 rfl) (ci := 4) rfl rfl hd_X4_isStair ⟨rfl, rfl⟩ ⟨(Nat.le_of_ble_eq_true rfl), (Nat.le_of_ble_eq_true rfl)⟩ rfl rfl rfl (Nat.le_of_ble_eq_true rfl) ⟨(Nat.le_of_ble_eq_true rfl), (Nat.le_of_ble_eq_true rfl)⟩ dX4_drawn_1 ?_
  intro _ hu1
  refine z_eq (lv₂ := [(0, .ref o), (1, .int d), (2, .int sd), (3, .int w)]) (st₂ := [.int (bI (decide (0 < c 17)))]) ?_ rfl rfl
  refine z_if_ne (pc := 4) gX 10 dX4_drawn_4 (by decide) (fun c4 => ?_) (fun c4 => ?_)
  · skip
    have k4 : (decide (0 < c 17)) = true := bI_ne0 c4
    have hn0 : 0 < n := by have h := of_decide_eq_true k4; rw [hn] at h; exact (zn_lt (a := 0) (by omega) (by omega)).mp h
    refine z_iload_n (pc := 10) gX 1 dX4_drawn_10 rfl rfl ?_
    refine z_iconst (pc := 11) gX 0 dX4_drawn_11 (by decide) ?_
    refine z_bipush (pc := 12) gX 60 dX4_drawn_12 (by decide) ?_
    refine z_cOS (pc := 14) gX (zI_ok gX hAX) [.int d, .int 0, .int 60] [] [] (met_X4_in l D B0 d 0 60 ) q1452 q1453 q54 q1454 hd_X4_in ⟨rfl, rfl⟩ ⟨(Nat.le_of_ble_eq_true rfl), (Nat.le_of_ble_eq_true rfl)⟩ rfl rfl rfl (Nat.le_of_ble_eq_true rfl) ⟨(Nat.le_of_ble_eq_true rfl), (Nat.le_of_ble_eq_true rfl)⟩ dX4_drawn_14 ?_
    intro _ hu14
    refine z_eq (lv₂ := [(0, .ref o), (1, .int d), (2, .int sd), (3, .int w)]) (st₂ := [.int (bI (mIn d 0 60))]) ?_ rfl rfl
    refine z_if_eq (pc := 17) gX 39 dX4_drawn_17 (by decide) (fun c17 => ?_) (fun c17 => ?_)
    · skip
      have k17 : (mIn d 0 60) = false := bI_eq0 c17
      refine z_ldc (pc := 39) gX q1455 dX4_drawn_39 ?_
      exact z_rim gX hQX (th, wn) trivial (zsv (by simp [mDrawn, of_decide_eq_true k4, k4, k17])) rfl (by first | decide | omega) (by first | decide | omega) dX4_drawn_41
    · skip
      have k17 : (mIn d 0 60) = true := bI_ne0 c17
      obtain ⟨dd, hdd, rfl⟩ := mIn_nat k17 60 (by decide)
      refine z_iload_n (pc := 20) gX 2 dX4_drawn_20 rfl rfl ?_
      refine z_iconst (pc := 21) gX 1 dX4_drawn_21 (by decide) ?_
      refine z_ldc (pc := 22) gX q1648 dX4_drawn_22 ?_
      refine z_cOS (pc := 24) gX (zI_ok gX hAX) [.int sd, .int 1, .int 999999] [] [] (met_X4_in l D B0 sd 1 999999 ) q1452 q1453 q54 q1454 hd_X4_in ⟨rfl, rfl⟩ ⟨(Nat.le_of_ble_eq_true rfl), (Nat.le_of_ble_eq_true rfl)⟩ rfl rfl rfl (Nat.le_of_ble_eq_true rfl) ⟨(Nat.le_of_ble_eq_true rfl), (Nat.le_of_ble_eq_true rfl)⟩ dX4_drawn_24 ?_
      intro _ hu24
      refine z_eq (lv₂ := [(0, .ref o), (1, .int (nI dd)), (2, .int sd), (3, .int w)]) (st₂ := [.int (bI (mIn sd 1 999999))]) ?_ rfl rfl
      refine z_if_eq (pc := 27) gX 39 dX4_drawn_27 (by decide) (fun c27 => ?_) (fun c27 => ?_)
      · skip
        have k27 : (mIn sd 1 999999) = false := bI_eq0 c27
        refine z_ldc (pc := 39) gX q1455 dX4_drawn_39 ?_
        exact z_rim gX hQX (th, wn) trivial (zsv (by simp [mDrawn, of_decide_eq_true k4, k4, k17, k27])) rfl (by first | decide | omega) (by first | decide | omega) dX4_drawn_41
      · skip
        have k27 : (mIn sd 1 999999) = true := bI_ne0 c27
        obtain ⟨z0, hz0, rfl⟩ := mIn_nat1 k27 999999 (by decide)
        refine z_iload_n (pc := 30) gX 3 dX4_drawn_30 rfl rfl ?_
        refine z_iconst (pc := 31) gX 0 dX4_drawn_31 (by decide) ?_
        refine z_iconst (pc := 32) gX 1 dX4_drawn_32 (by decide) ?_
        refine z_cOS (pc := 33) gX (zI_ok gX hAX) [.int w, .int 0, .int 1] [] [] (met_X4_in l D B0 w 0 1 ) q1452 q1453 q54 q1454 hd_X4_in ⟨rfl, rfl⟩ ⟨(Nat.le_of_ble_eq_true rfl), (Nat.le_of_ble_eq_true rfl)⟩ rfl rfl rfl (Nat.le_of_ble_eq_true rfl) ⟨(Nat.le_of_ble_eq_true rfl), (Nat.le_of_ble_eq_true rfl)⟩ dX4_drawn_33 ?_
        intro _ hu33
        refine z_eq (lv₂ := [(0, .ref o), (1, .int (nI dd)), (2, .int (nI z0)), (3, .int w)]) (st₂ := [.int (bI (mIn w 0 1))]) ?_ rfl rfl
        refine z_if_ne (pc := 36) gX 42 dX4_drawn_36 (by decide) (fun c36 => ?_) (fun c36 => ?_)
        · skip
          have k36 : (mIn w 0 1) = true := bI_ne0 c36
          refine z_aload_n (pc := 42) gX 0 dX4_drawn_42 rfl rfl ?_
          refine z_cMV (pc := 43) gX hAX [] [] [0, 1, 2] [3] (fun A1 => met_X4_starts l D B0 A1 o ad x c th ) q1592 q1594 qs39 q54 q1595 (zm 0 rfl) (ci := 4) rfl rfl hd_X4_starts ⟨rfl, rfl⟩ ⟨(Nat.le_of_ble_eq_true rfl), (Nat.le_of_ble_eq_true rfl)⟩ rfl rfl rfl rfl rfl (Nat.le_of_ble_eq_true rfl) ⟨(Nat.le_of_ble_eq_true rfl), (Nat.le_of_ble_eq_true rfl)⟩ dX4_drawn_43 ?_
          intro _ hu43
          refine z_re [0, 1, 2, 3] [mOb o ad x, [(ad 5, .inl (D.1 100, 25, .inl c))], [(ad 10, .inl (D.1 100, 25, .inl c))], [(ad 11, .inl (D.1 100, 25, .inl wn))]] rfl rfl ?_
          refine z_eq (lv₂ := [(0, .ref o), (1, .int (nI dd)), (2, .int (nI z0)), (3, .int w)]) (st₂ := []) ?_ rfl rfl
          refine z_iload_n (pc := 46) gX 2 dX4_drawn_46 rfl rfl ?_
          refine z_i2l (pc := 47) gX dX4_drawn_47 ?_
          refine z_topl (lN z0) (nI_l (by omega)) ?_
          refine z_lstore (pc := 48) gX [1, 2, 3, 4, 0] [(0, .ref o), (1, .int (nI dd)), (2, .int (nI z0)), (3, .int w), (4, .long (lN z0))] dX4_drawn_48 (by decide) rfl ?_
          refine z_iconst (pc := 50) gX 0 dX4_drawn_50 (by decide) ?_
          refine z_istore (pc := 51) gX [1, 2, 3, 4, 5, 0] [(0, .ref o), (1, .int (nI dd)), (2, .int (nI z0)), (3, .int w), (4, .long (lN z0)), (6, .int 0)] dX4_drawn_51 (by decide) rfl ?_
          refine z_iconst (pc := 53) gX 0 dX4_drawn_53 (by decide) ?_
          refine z_istore (pc := 54) gX [1, 2, 3, 4, 5, 6, 0] [(0, .ref o), (1, .int (nI dd)), (2, .int (nI z0)), (3, .int w), (4, .long (lN z0)), (6, .int 0), (7, .int 0)] dX4_drawn_54 (by decide) rfl ?_
          have L56 : ∀ (n56 : Nat) (i : Nat) (z : Nat) (of_ : Int32) (t2 : Nat → Int32) (w2 : Nat → Int32), (i ≤ dd) → (z < 2147483648) → ((z, of_, t2) = dwS n k (z0, 0, c) i) → (∀ j, 16 ≤ j → t2 j = c j) → dd - i < n56 → zJ pX l eX (zRm 6 0 0) sX mX argsX blX mtX cX QX 10 (zI D A sX [mOb o ad x, [(ad 5, .inl (D.1 100, 25, .inl c))], [(ad 10, .inl (D.1 100, 25, .inl t2))], [(ad 11, .inl (D.1 100, 25, .inl w2))]]) 0 0 56 [(0, .ref o), (1, .int (nI dd)), (2, .int (nI z0)), (3, .int w), (4, .long (lN z)), (6, .int of_), (7, .int (nI i))] [] := by
            intro n56
            induction n56 with
            | zero => exact fun i z of_ t2 w2 hi hz hp hfr hm56 => absurd hm56 (Nat.not_lt_zero _)
            | succ n56 ih56 =>
              intro i z of_ t2 w2 hi hz hp hfr hm56
              refine z_iload (pc := 56) gX 6 dX4_drawn_56 rfl ?_
              refine z_iload_n (pc := 58) gX 1 dX4_drawn_58 rfl rfl ?_
              refine z_icmp_ge (pc := 59) gX 200 dX4_drawn_59 (by decide) (fun c59 => ?_) (fun c59 => ?_)
              · skip
                have k59 : dd ≤ i := (zn_le (a := dd) (b := i) (by omega) (by omega)).mp c59
                refine z_iload_n (pc := 200) gX 3 dX4_drawn_200 rfl rfl ?_
                refine z_if_ne (pc := 201) gX 209 dX4_drawn_201 (by decide) (fun c201 => ?_) (fun c201 => ?_)
                · skip
                  refine z_aload_n (pc := 209) gX 0 dX4_drawn_209 rfl rfl ?_
                  refine z_get (pc := 210) gX (zI_ok gX hAX) (zm 0 rfl) (ci := 4) (C := RX4) (T := TX4) (N := 20) rfl in_X4 14 (by decide) q1397 (fun _ h => h) (v := .ref (ad 10)) rfl dX4_drawn_210 ?_
                  refine z_cOS (pc := 213) gX (zI_ok gX hAX) [.ref (ad 10)] [] [2] (met_X4_offIn l D B0 (ad 10) t2 n ((hfr 17 (by omega)).trans hn) (by first | assumption | omega)) q1553 q1554 q54 q1555 hd_X4_offIn ⟨rfl, rfl⟩ ⟨(Nat.le_of_ble_eq_true rfl), (Nat.le_of_ble_eq_true rfl)⟩ rfl rfl rfl (Nat.le_of_ble_eq_true rfl) ⟨(Nat.le_of_ble_eq_true rfl), (Nat.le_of_ble_eq_true rfl)⟩ dX4_drawn_213 ?_
                  intro _ hu213
                  refine z_eq (lv₂ := [(0, .ref o), (1, .int (nI dd)), (2, .int (nI z0)), (3, .int w), (4, .long (lN z)), (6, .int of_), (7, .int (nI i))]) (st₂ := [.int (nI (cntV t2 99 n))]) ?_ rfl rfl
                  exact z_rim gX hQX (t2, w2) trivial (zsv (by rw [show i = dd by omega] at hp; simp only [mDrawn, if_pos (of_decide_eq_true k4), k17, k27, k36, Bool.and_self, if_true, nI_clamp (show dd < 2 ^ 31 by omega), nI_clamp (show z0 < 2 ^ 31 by omega), ← hp]; rw [if_neg c201])) rfl (by first | decide | omega) (by first | decide | omega) dX4_drawn_216
                · skip
                  refine z_iload (pc := 204) gX 5 dX4_drawn_204 rfl ?_
                  refine z_goto (pc := 206) gX 216 dX4_drawn_206 (by decide) ?_
                  exact z_rim gX hQX (t2, w2) trivial (zsv (by rw [show i = dd by omega] at hp; simp only [mDrawn, if_pos (of_decide_eq_true k4), k17, k27, k36, Bool.and_self, if_true, nI_clamp (show dd < 2 ^ 31 by omega), nI_clamp (show z0 < 2 ^ 31 by omega), ← hp]; rw [if_pos c201])) rfl (by first | decide | omega) (by first | decide | omega) dX4_drawn_216
              · skip
                have k59 : i < dd := (zn_nle (a := dd) (b := i) (by omega) (by omega)).mp c59
                obtain ⟨z1, hz1⟩ : ∃ z1, z1 = dwZ z := ⟨_, rfl⟩
                have hz1l : z1 < 2147483647 := by rw [hz1]; exact Nat.mod_lt _ (by decide)
                have hzn := Nat.mod_lt z1 hn0
                refine z_lload (pc := 62) gX 4 dX4_drawn_62 rfl ?_
                refine z_ldc2_w (pc := 64) gX q1649 dX4_drawn_64 ?_
                refine z_lmul (pc := 67) gX dX4_drawn_67 ?_
                refine z_topl (lN (z * 16807)) (lN_mul z 16807) ?_
                refine z_ldc2_w (pc := 68) gX q1650 dX4_drawn_68 ?_
                refine z_lrem (pc := 71) gX dX4_drawn_71 (by decide) ?_
                refine z_topl (lN z1) (by rw [hz1]; exact pk_lRem (a := z * 16807) (b := 2147483647) (by omega) (by omega) (by omega)) ?_
                refine z_lstore (pc := 72) gX [1, 2, 3, 4, 0, 5, 6] [(0, .ref o), (1, .int (nI dd)), (2, .int (nI z0)), (3, .int w), (4, .long (lN z1)), (6, .int of_), (7, .int (nI i))] dX4_drawn_72 (by decide) rfl ?_
                refine z_aload_n (pc := 74) gX 0 dX4_drawn_74 rfl rfl ?_
                refine z_get (pc := 75) gX (zI_ok gX hAX) (zm 0 rfl) (ci := 4) (C := RX4) (T := TX4) (N := 20) rfl in_X4 14 (by decide) q1397 (fun _ h => h) (v := .ref (ad 10)) rfl dX4_drawn_75 ?_
                refine z_iconst (pc := 78) gX 1 dX4_drawn_78 (by decide) ?_
                refine z_lload (pc := 79) gX 4 dX4_drawn_79 rfl ?_
                refine z_ldc2_w (pc := 81) gX q1651 dX4_drawn_81 ?_
                refine z_lrem (pc := 84) gX dX4_drawn_84 (by decide) ?_
                refine z_topl (lN (z1 % 4)) (pk_lRem (b := 4) (by omega) (by omega) (by omega)) ?_
                refine z_lconst (pc := 85) gX 0 dX4_drawn_85 rfl ?_
                refine z_lcmp (pc := 86) gX dX4_drawn_86 ?_
                refine z_if_ne (pc := 87) gX 100 dX4_drawn_87 (by decide) (fun c87 => ?_) (fun c87 => ?_)
                · skip
                  have h4 : ¬ z1 % 4 = 0 := fun h => c87 ((lcmp0 (by omega)).mpr h)
                  refine z_aload_n (pc := 100) gX 0 dX4_drawn_100 rfl rfl ?_
                  refine z_get (pc := 101) gX (zI_ok gX hAX) (zm 0 rfl) (ci := 4) (C := RX4) (T := TX4) (N := 20) rfl in_X4 14 (by decide) q1397 (fun _ h => h) (v := .ref (ad 10)) rfl dX4_drawn_101 ?_
                  refine z_iconst (pc := 104) gX 1 dX4_drawn_104 (by decide) ?_
                  refine z_top (nI 1) rfl ?_
                  refine z_iald (pc := 105) gX (zI_ok gX hAX) (j := 1) (n := 25) (f := t2) (zm 2 rfl) (by omega) (by decide) dX4_drawn_105 ?_
                  refine z_ixtop (nI 1) rfl ?_
                  refine z_iast (pc := 106) gX hAX 2 (j := 1) (n := 25) (f := t2) rfl (by omega) (by decide) [mOb o ad x, [(ad 5, .inl (D.1 100, 25, .inl c))], [(ad 10, .inl (D.1 100, 25, .inl (upd t2 1 (t2 1))))], [(ad 11, .inl (D.1 100, 25, .inl w2))]] rfl dX4_drawn_106 ?_
                  refine z_lload (pc := 107) gX 4 dX4_drawn_107 rfl ?_
                  refine z_aload_n (pc := 109) gX 0 dX4_drawn_109 rfl rfl ?_
                  refine z_get (pc := 110) gX (zI_ok gX hAX) (zm 0 rfl) (ci := 4) (C := RX4) (T := TX4) (N := 20) rfl in_X4 14 (by decide) q1397 (fun _ h => h) (v := .ref (ad 10)) rfl dX4_drawn_110 ?_
                  refine z_bipush (pc := 113) gX 17 dX4_drawn_113 (by decide) ?_
                  refine z_top (nI 17) rfl ?_
                  refine z_iald (pc := 115) gX (zI_ok gX hAX) (j := 17) (n := 25) (f := (upd t2 1 (t2 1))) (zm 2 rfl) (by omega) (by decide) dX4_drawn_115 ?_
                  refine z_top (nI n) (by rw [pk_un (by omega)]; exact (hfr 17 (by omega)).trans hn) ?_
                  refine z_i2l (pc := 116) gX dX4_drawn_116 ?_
                  refine z_topl (lN n) (nI_l (by omega)) ?_
                  refine z_lrem (pc := 117) gX dX4_drawn_117 (fun h => absurd ((pk_lEQ (a := n) (b := 0) (by omega) (by omega)).mp h) (by omega)) ?_
                  refine z_l2i (pc := 118) gX dX4_drawn_118 ?_
                  refine z_top (nI (z1 % n)) (l2 (by omega) hn0 (by omega)) ?_
                  refine z_istore (pc := 119) gX [1, 2, 3, 4, 5, 6, 7, 0] [(0, .ref o), (1, .int (nI dd)), (2, .int (nI z0)), (3, .int w), (4, .long (lN z1)), (6, .int of_), (7, .int (nI i)), (8, .int (nI (z1 % n)))] dX4_drawn_119 (by decide) rfl ?_
                  refine z_aload_n (pc := 121) gX 0 dX4_drawn_121 rfl rfl ?_
                  refine z_get (pc := 122) gX (zI_ok gX hAX) (zm 0 rfl) (ci := 4) (C := RX4) (T := TX4) (N := 20) rfl in_X4 14 (by decide) q1397 (fun _ h => h) (v := .ref (ad 10)) rfl dX4_drawn_122 ?_
                  refine z_iconst (pc := 125) gX 2 dX4_drawn_125 (by decide) ?_
                  refine z_iload (pc := 126) gX 7 dX4_drawn_126 rfl ?_
                  refine z_iadd (pc := 128) gX dX4_drawn_128 ?_
                  refine z_top (nI (2 + z1 % n)) (nI_add 2 (z1 % n)) ?_
                  refine z_iald (pc := 129) gX (zI_ok gX hAX) (j := (2 + z1 % n)) (n := 25) (f := (upd t2 1 (t2 1))) (zm 2 rfl) (by omega) (by decide) dX4_drawn_129 ?_
                  refine z_bipush (pc := 130) gX 99 dX4_drawn_130 (by decide) ?_
                  refine z_icmp_ne (pc := 132) gX 162 dX4_drawn_132 (by decide) (fun c132 => ?_) (fun c132 => ?_)
                  · skip
                    refine z_aload_n (pc := 162) gX 0 dX4_drawn_162 rfl rfl ?_
                    refine z_get (pc := 163) gX (zI_ok gX hAX) (zm 0 rfl) (ci := 4) (C := RX4) (T := TX4) (N := 20) rfl in_X4 14 (by decide) q1397 (fun _ h => h) (v := .ref (ad 10)) rfl dX4_drawn_163 ?_
                    refine z_cOS (pc := 166) gX (zI_ok gX hAX) [.ref (ad 10)] [] [2] (met_X4_offIn l D B0 (ad 10) (upd t2 1 (t2 1)) n (by first | (rw [pk_un (by omega)]; exact (hfr 17 (by omega)).trans hn) | (rw [pk_un (by omega), pk_un (by omega), pk_un (by omega)]; exact (hfr 17 (by omega)).trans hn)) (by first | assumption | omega)) q1553 q1554 q54 q1555 hd_X4_offIn ⟨rfl, rfl⟩ ⟨(Nat.le_of_ble_eq_true rfl), (Nat.le_of_ble_eq_true rfl)⟩ rfl rfl rfl (Nat.le_of_ble_eq_true rfl) ⟨(Nat.le_of_ble_eq_true rfl), (Nat.le_of_ble_eq_true rfl)⟩ dX4_drawn_166 ?_
                    intro _ hu166
                    refine z_eq (lv₂ := [(0, .ref o), (1, .int (nI dd)), (2, .int (nI z0)), (3, .int w), (4, .long (lN z1)), (6, .int of_), (7, .int (nI i)), (8, .int (nI (z1 % n)))]) (st₂ := [.int (nI (cntV (upd t2 1 (t2 1)) 99 n))]) ?_ rfl rfl
                    refine z_istore (pc := 169) gX [1, 2, 3, 4, 5, 6, 7, 8, 0] [(0, .ref o), (1, .int (nI dd)), (2, .int (nI z0)), (3, .int w), (4, .long (lN z1)), (6, .int of_), (7, .int (nI i)), (8, .int (nI (z1 % n))), (9, .int (nI (cntV (upd t2 1 (t2 1)) 99 n)))] dX4_drawn_169 (by decide) rfl ?_
                    refine z_aload_n (pc := 171) gX 0 dX4_drawn_171 rfl rfl ?_
                    refine z_aload_n (pc := 172) gX 0 dX4_drawn_172 rfl rfl ?_
                    refine z_get (pc := 173) gX (zI_ok gX hAX) (zm 0 rfl) (ci := 4) (C := RX4) (T := TX4) (N := 20) rfl in_X4 14 (by decide) q1397 (fun _ h => h) (v := .ref (ad 10)) rfl dX4_drawn_173 ?_
                    refine z_cMV (pc := 176) gX hAX [.ref (ad 10)] [] [0, 3, 2] [1] (fun A1 => met_X4_tick l D B0 A1 o ad x (ad 10) w2 (upd t2 1 (t2 1)) n k (by first | (rw [pk_un (by omega)]; exact (hfr 17 (by omega)).trans hn) | (rw [pk_un (by omega), pk_un (by omega), pk_un (by omega)]; exact (hfr 17 (by omega)).trans hn)) (by first | assumption | omega) (by first | (rw [pk_un (by omega)]; exact (hfr 16 (by omega)).trans hk) | (rw [pk_un (by omega), pk_un (by omega), pk_un (by omega)]; exact (hfr 16 (by omega)).trans hk)) (by first | assumption | omega)) q1537 q1539 qs37 q54 q1540 (zm 0 rfl) (ci := 4) rfl rfl hd_X4_tick ⟨rfl, rfl⟩ ⟨(Nat.le_of_ble_eq_true rfl), (Nat.le_of_ble_eq_true rfl)⟩ rfl rfl rfl rfl rfl (Nat.le_of_ble_eq_true rfl) ⟨(Nat.le_of_ble_eq_true rfl), (Nat.le_of_ble_eq_true rfl)⟩ dX4_drawn_176 ?_
                    intro u176 hu176
                    obtain ⟨wn1_176, rfl⟩ : ∃ z, z = u176 := ⟨_, rfl⟩
                    refine z_re [0, 3, 2, 1] [mOb o ad x, [(ad 5, .inl (D.1 100, 25, .inl c))], [(ad 10, .inl (D.1 100, 25, .inl (mTick n k (upd t2 1 (t2 1)))))], [(ad 11, .inl (D.1 100, 25, .inl wn1_176))]] rfl rfl ?_
                    refine z_eq (lv₂ := [(0, .ref o), (1, .int (nI dd)), (2, .int (nI z0)), (3, .int w), (4, .long (lN z1)), (6, .int of_), (7, .int (nI i)), (8, .int (nI (z1 % n))), (9, .int (nI (cntV (upd t2 1 (t2 1)) 99 n)))]) (st₂ := []) ?_ rfl rfl
                    refine z_iload (pc := 179) gX 5 dX4_drawn_179 rfl ?_
                    refine z_aload_n (pc := 181) gX 0 dX4_drawn_181 rfl rfl ?_
                    refine z_get (pc := 182) gX (zI_ok gX hAX) (zm 0 rfl) (ci := 4) (C := RX4) (T := TX4) (N := 20) rfl in_X4 14 (by decide) q1397 (fun _ h => h) (v := .ref (ad 10)) rfl dX4_drawn_182 ?_
                    refine z_cOS (pc := 185) gX (zI_ok gX hAX) [.ref (ad 10)] [.int of_] [2] (met_X4_offIn l D B0 (ad 10) (mTick n k (upd t2 1 (t2 1))) n ((FrT.tick hn7 17 (by omega)).trans (by first | (rw [pk_un (by omega)]; exact (hfr 17 (by omega)).trans hn) | (rw [pk_un (by omega), pk_un (by omega), pk_un (by omega)]; exact (hfr 17 (by omega)).trans hn))) (by first | assumption | omega)) q1553 q1554 q54 q1555 hd_X4_offIn ⟨rfl, rfl⟩ ⟨(Nat.le_of_ble_eq_true rfl), (Nat.le_of_ble_eq_true rfl)⟩ rfl rfl rfl (Nat.le_of_ble_eq_true rfl) ⟨(Nat.le_of_ble_eq_true rfl), (Nat.le_of_ble_eq_true rfl)⟩ dX4_drawn_185 ?_
                    intro _ hu185
                    refine z_eq (lv₂ := [(0, .ref o), (1, .int (nI dd)), (2, .int (nI z0)), (3, .int w), (4, .long (lN z1)), (6, .int of_), (7, .int (nI i)), (8, .int (nI (z1 % n))), (9, .int (nI (cntV (upd t2 1 (t2 1)) 99 n)))]) (st₂ := [.int (nI (cntV (mTick n k (upd t2 1 (t2 1))) 99 n)), .int of_]) ?_ rfl rfl
                    refine z_iload (pc := 188) gX 8 dX4_drawn_188 rfl ?_
                    refine z_isub (pc := 190) gX dX4_drawn_190 ?_
                    refine z_iadd (pc := 191) gX dX4_drawn_191 ?_
                    refine z_istore (pc := 192) gX [1, 2, 3, 4, 5, 0, 6, 7, 8] [(0, .ref o), (1, .int (nI dd)), (2, .int (nI z0)), (3, .int w), (4, .long (lN z1)), (6, .int (of_ + ((nI (cntV (mTick n k (upd t2 1 (t2 1))) 99 n)) - (nI (cntV (upd t2 1 (t2 1)) 99 n))))), (7, .int (nI i)), (8, .int (nI (z1 % n))), (9, .int (nI (cntV (upd t2 1 (t2 1)) 99 n)))] dX4_drawn_192 (by decide) rfl ?_
                    refine z_iinc (pc := 194) gX 6 (nI (i + 1)) [1, 2, 3, 4, 5, 6, 0, 7, 8] [(0, .ref o), (1, .int (nI dd)), (2, .int (nI z0)), (3, .int w), (4, .long (lN z1)), (6, .int (of_ + ((nI (cntV (mTick n k (upd t2 1 (t2 1))) 99 n)) - (nI (cntV (upd t2 1 (t2 1)) 99 n))))), (7, .int (nI (i + 1))), (8, .int (nI (z1 % n))), (9, .int (nI (cntV (upd t2 1 (t2 1)) 99 n)))] dX4_drawn_194 rfl (nI_1 _) (by decide) rfl ?_
                    refine z_goto (pc := 197) gX 56 dX4_drawn_197 (by decide) ?_
                    refine z_lv [0, 1, 2, 3, 4, 5, 6] [(0, .ref o), (1, .int (nI dd)), (2, .int (nI z0)), (3, .int w), (4, .long (lN z1)), (6, .int (of_ + ((nI (cntV (mTick n k (upd t2 1 (t2 1))) 99 n)) - (nI (cntV (upd t2 1 (t2 1)) 99 n))))), (7, .int (nI (i + 1)))] rfl ?_
                    exact ih56 (i + 1) z1 (of_ + ((nI (cntV (mTick n k (upd t2 1 (t2 1))) 99 n)) - (nI (cntV (upd t2 1 (t2 1)) 99 n)))) (mTick n k (upd t2 1 (t2 1))) wn1_176 (by omega) (by omega) (by rw [show dwS n k (z0, 0, c) (i + 1) = dwStep n k (dwS n k (z0, 0, c) i) from rfl, ← hp]; simp only [dwStep, ← hz1, dwC1, if_neg h4, dwC2]; rw [if_neg c132]) (fun j hj => ((FrT.tick hn7 j (by omega)).trans (by rw [pk_un (by omega)])).trans (hfr j hj)) (by omega)
                  · skip
                    refine z_aload_n (pc := 135) gX 0 dX4_drawn_135 rfl rfl ?_
                    refine z_get (pc := 136) gX (zI_ok gX hAX) (zm 0 rfl) (ci := 4) (C := RX4) (T := TX4) (N := 20) rfl in_X4 14 (by decide) q1397 (fun _ h => h) (v := .ref (ad 10)) rfl dX4_drawn_136 ?_
                    refine z_iconst (pc := 139) gX 2 dX4_drawn_139 (by decide) ?_
                    refine z_iload (pc := 140) gX 7 dX4_drawn_140 rfl ?_
                    refine z_iadd (pc := 142) gX dX4_drawn_142 ?_
                    refine z_top (nI (2 + z1 % n)) (nI_add 2 (z1 % n)) ?_
                    refine z_iconst (pc := 143) gX (-1) dX4_drawn_143 (by decide) ?_
                    refine z_iast (pc := 144) gX hAX 2 (j := (2 + z1 % n)) (n := 25) (f := (upd t2 1 (t2 1))) rfl (by omega) (by decide) [mOb o ad x, [(ad 5, .inl (D.1 100, 25, .inl c))], [(ad 10, .inl (D.1 100, 25, .inl (upd (upd t2 1 (t2 1)) (2 + z1 % n) (-1))))], [(ad 11, .inl (D.1 100, 25, .inl w2))]] rfl dX4_drawn_144 ?_
                    refine z_aload_n (pc := 145) gX 0 dX4_drawn_145 rfl rfl ?_
                    refine z_get (pc := 146) gX (zI_ok gX hAX) (zm 0 rfl) (ci := 4) (C := RX4) (T := TX4) (N := 20) rfl in_X4 14 (by decide) q1397 (fun _ h => h) (v := .ref (ad 10)) rfl dX4_drawn_146 ?_
                    refine z_bipush (pc := 149) gX 9 dX4_drawn_149 (by decide) ?_
                    refine z_iload (pc := 151) gX 7 dX4_drawn_151 rfl ?_
                    refine z_iadd (pc := 153) gX dX4_drawn_153 ?_
                    refine z_top (nI (9 + z1 % n)) (nI_add 9 (z1 % n)) ?_
                    refine z_lload (pc := 154) gX 4 dX4_drawn_154 rfl ?_
                    refine z_ldc2_w (pc := 156) gX q1653 dX4_drawn_156 ?_
                    refine z_lrem (pc := 159) gX dX4_drawn_159 (by decide) ?_
                    refine z_l2i (pc := 160) gX dX4_drawn_160 ?_
                    refine z_top (nI (z1 % 2)) (l2 (b := 2) (by omega) (by omega) (by omega)) ?_
                    refine z_iast (pc := 161) gX hAX 2 (j := (9 + z1 % n)) (n := 25) (f := (upd (upd t2 1 (t2 1)) (2 + z1 % n) (-1))) rfl (by omega) (by decide) [mOb o ad x, [(ad 5, .inl (D.1 100, 25, .inl c))], [(ad 10, .inl (D.1 100, 25, .inl (upd (upd (upd t2 1 (t2 1)) (2 + z1 % n) (-1)) (9 + z1 % n) (nI (z1 % 2)))))], [(ad 11, .inl (D.1 100, 25, .inl w2))]] rfl dX4_drawn_161 ?_
                    refine z_aload_n (pc := 162) gX 0 dX4_drawn_162 rfl rfl ?_
                    refine z_get (pc := 163) gX (zI_ok gX hAX) (zm 0 rfl) (ci := 4) (C := RX4) (T := TX4) (N := 20) rfl in_X4 14 (by decide) q1397 (fun _ h => h) (v := .ref (ad 10)) rfl dX4_drawn_163 ?_
                    refine z_cOS (pc := 166) gX (zI_ok gX hAX) [.ref (ad 10)] [] [2] (met_X4_offIn l D B0 (ad 10) (upd (upd (upd t2 1 (t2 1)) (2 + z1 % n) (-1)) (9 + z1 % n) (nI (z1 % 2))) n (by first | (rw [pk_un (by omega)]; exact (hfr 17 (by omega)).trans hn) | (rw [pk_un (by omega), pk_un (by omega), pk_un (by omega)]; exact (hfr 17 (by omega)).trans hn)) (by first | assumption | omega)) q1553 q1554 q54 q1555 hd_X4_offIn ⟨rfl, rfl⟩ ⟨(Nat.le_of_ble_eq_true rfl), (Nat.le_of_ble_eq_true rfl)⟩ rfl rfl rfl (Nat.le_of_ble_eq_true rfl) ⟨(Nat.le_of_ble_eq_true rfl), (Nat.le_of_ble_eq_true rfl)⟩ dX4_drawn_166 ?_
                    intro _ hu166
                    refine z_eq (lv₂ := [(0, .ref o), (1, .int (nI dd)), (2, .int (nI z0)), (3, .int w), (4, .long (lN z1)), (6, .int of_), (7, .int (nI i)), (8, .int (nI (z1 % n)))]) (st₂ := [.int (nI (cntV (upd (upd (upd t2 1 (t2 1)) (2 + z1 % n) (-1)) (9 + z1 % n) (nI (z1 % 2))) 99 n))]) ?_ rfl rfl
                    refine z_istore (pc := 169) gX [1, 2, 3, 4, 5, 6, 7, 8, 0] [(0, .ref o), (1, .int (nI dd)), (2, .int (nI z0)), (3, .int w), (4, .long (lN z1)), (6, .int of_), (7, .int (nI i)), (8, .int (nI (z1 % n))), (9, .int (nI (cntV (upd (upd (upd t2 1 (t2 1)) (2 + z1 % n) (-1)) (9 + z1 % n) (nI (z1 % 2))) 99 n)))] dX4_drawn_169 (by decide) rfl ?_
                    refine z_aload_n (pc := 171) gX 0 dX4_drawn_171 rfl rfl ?_
                    refine z_aload_n (pc := 172) gX 0 dX4_drawn_172 rfl rfl ?_
                    refine z_get (pc := 173) gX (zI_ok gX hAX) (zm 0 rfl) (ci := 4) (C := RX4) (T := TX4) (N := 20) rfl in_X4 14 (by decide) q1397 (fun _ h => h) (v := .ref (ad 10)) rfl dX4_drawn_173 ?_
                    refine z_cMV (pc := 176) gX hAX [.ref (ad 10)] [] [0, 3, 2] [1] (fun A1 => met_X4_tick l D B0 A1 o ad x (ad 10) w2 (upd (upd (upd t2 1 (t2 1)) (2 + z1 % n) (-1)) (9 + z1 % n) (nI (z1 % 2))) n k (by first | (rw [pk_un (by omega)]; exact (hfr 17 (by omega)).trans hn) | (rw [pk_un (by omega), pk_un (by omega), pk_un (by omega)]; exact (hfr 17 (by omega)).trans hn)) (by first | assumption | omega) (by first | (rw [pk_un (by omega)]; exact (hfr 16 (by omega)).trans hk) | (rw [pk_un (by omega), pk_un (by omega), pk_un (by omega)]; exact (hfr 16 (by omega)).trans hk)) (by first | assumption | omega)) q1537 q1539 qs37 q54 q1540 (zm 0 rfl) (ci := 4) rfl rfl hd_X4_tick ⟨rfl, rfl⟩ ⟨(Nat.le_of_ble_eq_true rfl), (Nat.le_of_ble_eq_true rfl)⟩ rfl rfl rfl rfl rfl (Nat.le_of_ble_eq_true rfl) ⟨(Nat.le_of_ble_eq_true rfl), (Nat.le_of_ble_eq_true rfl)⟩ dX4_drawn_176 ?_
                    intro u176 hu176
                    obtain ⟨wn1_176, rfl⟩ : ∃ z, z = u176 := ⟨_, rfl⟩
                    refine z_re [0, 3, 2, 1] [mOb o ad x, [(ad 5, .inl (D.1 100, 25, .inl c))], [(ad 10, .inl (D.1 100, 25, .inl (mTick n k (upd (upd (upd t2 1 (t2 1)) (2 + z1 % n) (-1)) (9 + z1 % n) (nI (z1 % 2))))))], [(ad 11, .inl (D.1 100, 25, .inl wn1_176))]] rfl rfl ?_
                    refine z_eq (lv₂ := [(0, .ref o), (1, .int (nI dd)), (2, .int (nI z0)), (3, .int w), (4, .long (lN z1)), (6, .int of_), (7, .int (nI i)), (8, .int (nI (z1 % n))), (9, .int (nI (cntV (upd (upd (upd t2 1 (t2 1)) (2 + z1 % n) (-1)) (9 + z1 % n) (nI (z1 % 2))) 99 n)))]) (st₂ := []) ?_ rfl rfl
                    refine z_iload (pc := 179) gX 5 dX4_drawn_179 rfl ?_
                    refine z_aload_n (pc := 181) gX 0 dX4_drawn_181 rfl rfl ?_
                    refine z_get (pc := 182) gX (zI_ok gX hAX) (zm 0 rfl) (ci := 4) (C := RX4) (T := TX4) (N := 20) rfl in_X4 14 (by decide) q1397 (fun _ h => h) (v := .ref (ad 10)) rfl dX4_drawn_182 ?_
                    refine z_cOS (pc := 185) gX (zI_ok gX hAX) [.ref (ad 10)] [.int of_] [2] (met_X4_offIn l D B0 (ad 10) (mTick n k (upd (upd (upd t2 1 (t2 1)) (2 + z1 % n) (-1)) (9 + z1 % n) (nI (z1 % 2)))) n ((FrT.tick hn7 17 (by omega)).trans (by first | (rw [pk_un (by omega)]; exact (hfr 17 (by omega)).trans hn) | (rw [pk_un (by omega), pk_un (by omega), pk_un (by omega)]; exact (hfr 17 (by omega)).trans hn))) (by first | assumption | omega)) q1553 q1554 q54 q1555 hd_X4_offIn ⟨rfl, rfl⟩ ⟨(Nat.le_of_ble_eq_true rfl), (Nat.le_of_ble_eq_true rfl)⟩ rfl rfl rfl (Nat.le_of_ble_eq_true rfl) ⟨(Nat.le_of_ble_eq_true rfl), (Nat.le_of_ble_eq_true rfl)⟩ dX4_drawn_185 ?_
                    intro _ hu185
                    refine z_eq (lv₂ := [(0, .ref o), (1, .int (nI dd)), (2, .int (nI z0)), (3, .int w), (4, .long (lN z1)), (6, .int of_), (7, .int (nI i)), (8, .int (nI (z1 % n))), (9, .int (nI (cntV (upd (upd (upd t2 1 (t2 1)) (2 + z1 % n) (-1)) (9 + z1 % n) (nI (z1 % 2))) 99 n)))]) (st₂ := [.int (nI (cntV (mTick n k (upd (upd (upd t2 1 (t2 1)) (2 + z1 % n) (-1)) (9 + z1 % n) (nI (z1 % 2)))) 99 n)), .int of_]) ?_ rfl rfl
                    refine z_iload (pc := 188) gX 8 dX4_drawn_188 rfl ?_
                    refine z_isub (pc := 190) gX dX4_drawn_190 ?_
                    refine z_iadd (pc := 191) gX dX4_drawn_191 ?_
                    refine z_istore (pc := 192) gX [1, 2, 3, 4, 5, 0, 6, 7, 8] [(0, .ref o), (1, .int (nI dd)), (2, .int (nI z0)), (3, .int w), (4, .long (lN z1)), (6, .int (of_ + ((nI (cntV (mTick n k (upd (upd (upd t2 1 (t2 1)) (2 + z1 % n) (-1)) (9 + z1 % n) (nI (z1 % 2)))) 99 n)) - (nI (cntV (upd (upd (upd t2 1 (t2 1)) (2 + z1 % n) (-1)) (9 + z1 % n) (nI (z1 % 2))) 99 n))))), (7, .int (nI i)), (8, .int (nI (z1 % n))), (9, .int (nI (cntV (upd (upd (upd t2 1 (t2 1)) (2 + z1 % n) (-1)) (9 + z1 % n) (nI (z1 % 2))) 99 n)))] dX4_drawn_192 (by decide) rfl ?_
                    refine z_iinc (pc := 194) gX 6 (nI (i + 1)) [1, 2, 3, 4, 5, 6, 0, 7, 8] [(0, .ref o), (1, .int (nI dd)), (2, .int (nI z0)), (3, .int w), (4, .long (lN z1)), (6, .int (of_ + ((nI (cntV (mTick n k (upd (upd (upd t2 1 (t2 1)) (2 + z1 % n) (-1)) (9 + z1 % n) (nI (z1 % 2)))) 99 n)) - (nI (cntV (upd (upd (upd t2 1 (t2 1)) (2 + z1 % n) (-1)) (9 + z1 % n) (nI (z1 % 2))) 99 n))))), (7, .int (nI (i + 1))), (8, .int (nI (z1 % n))), (9, .int (nI (cntV (upd (upd (upd t2 1 (t2 1)) (2 + z1 % n) (-1)) (9 + z1 % n) (nI (z1 % 2))) 99 n)))] dX4_drawn_194 rfl (nI_1 _) (by decide) rfl ?_
                    refine z_goto (pc := 197) gX 56 dX4_drawn_197 (by decide) ?_
                    refine z_lv [0, 1, 2, 3, 4, 5, 6] [(0, .ref o), (1, .int (nI dd)), (2, .int (nI z0)), (3, .int w), (4, .long (lN z1)), (6, .int (of_ + ((nI (cntV (mTick n k (upd (upd (upd t2 1 (t2 1)) (2 + z1 % n) (-1)) (9 + z1 % n) (nI (z1 % 2)))) 99 n)) - (nI (cntV (upd (upd (upd t2 1 (t2 1)) (2 + z1 % n) (-1)) (9 + z1 % n) (nI (z1 % 2))) 99 n))))), (7, .int (nI (i + 1)))] rfl ?_
                    exact ih56 (i + 1) z1 (of_ + ((nI (cntV (mTick n k (upd (upd (upd t2 1 (t2 1)) (2 + z1 % n) (-1)) (9 + z1 % n) (nI (z1 % 2)))) 99 n)) - (nI (cntV (upd (upd (upd t2 1 (t2 1)) (2 + z1 % n) (-1)) (9 + z1 % n) (nI (z1 % 2))) 99 n)))) (mTick n k (upd (upd (upd t2 1 (t2 1)) (2 + z1 % n) (-1)) (9 + z1 % n) (nI (z1 % 2)))) wn1_176 (by omega) (by omega) (by rw [show dwS n k (z0, 0, c) (i + 1) = dwStep n k (dwS n k (z0, 0, c) i) from rfl, ← hp]; simp only [dwStep, ← hz1, dwC1, if_neg h4, dwC2]; rw [if_pos c132]) (fun j hj => ((FrT.tick hn7 j (by omega)).trans (by rw [pk_un (by omega), pk_un (by omega)]; rw [pk_un (by omega)])).trans (hfr j hj)) (by omega)
                · skip
                  have h4 : z1 % 4 = 0 := (lcmp0 (by omega)).mp c87
                  refine z_lload (pc := 90) gX 4 dX4_drawn_90 rfl ?_
                  refine z_ldc2_w (pc := 92) gX q1652 dX4_drawn_92 ?_
                  refine z_lrem (pc := 95) gX dX4_drawn_95 (by decide) ?_
                  refine z_l2i (pc := 96) gX dX4_drawn_96 ?_
                  refine z_top (nI (z1 % 3)) (l2 (b := 3) (by omega) (by omega) (by omega)) ?_
                  refine z_goto (pc := 97) gX 106 dX4_drawn_97 (by decide) ?_
                  refine z_ixtop (nI 1) rfl ?_
                  refine z_iast (pc := 106) gX hAX 2 (j := 1) (n := 25) (f := t2) rfl (by omega) (by decide) [mOb o ad x, [(ad 5, .inl (D.1 100, 25, .inl c))], [(ad 10, .inl (D.1 100, 25, .inl (upd t2 1 (nI (z1 % 3)))))], [(ad 11, .inl (D.1 100, 25, .inl w2))]] rfl dX4_drawn_106 ?_
                  refine z_lload (pc := 107) gX 4 dX4_drawn_107 rfl ?_
                  refine z_aload_n (pc := 109) gX 0 dX4_drawn_109 rfl rfl ?_
                  refine z_get (pc := 110) gX (zI_ok gX hAX) (zm 0 rfl) (ci := 4) (C := RX4) (T := TX4) (N := 20) rfl in_X4 14 (by decide) q1397 (fun _ h => h) (v := .ref (ad 10)) rfl dX4_drawn_110 ?_
                  refine z_bipush (pc := 113) gX 17 dX4_drawn_113 (by decide) ?_
                  refine z_top (nI 17) rfl ?_
                  refine z_iald (pc := 115) gX (zI_ok gX hAX) (j := 17) (n := 25) (f := (upd t2 1 (nI (z1 % 3)))) (zm 2 rfl) (by omega) (by decide) dX4_drawn_115 ?_
                  refine z_top (nI n) (by rw [pk_un (by omega)]; exact (hfr 17 (by omega)).trans hn) ?_
                  refine z_i2l (pc := 116) gX dX4_drawn_116 ?_
                  refine z_topl (lN n) (nI_l (by omega)) ?_
                  refine z_lrem (pc := 117) gX dX4_drawn_117 (fun h => absurd ((pk_lEQ (a := n) (b := 0) (by omega) (by omega)).mp h) (by omega)) ?_
                  refine z_l2i (pc := 118) gX dX4_drawn_118 ?_
                  refine z_top (nI (z1 % n)) (l2 (by omega) hn0 (by omega)) ?_
                  refine z_istore (pc := 119) gX [1, 2, 3, 4, 5, 6, 7, 0] [(0, .ref o), (1, .int (nI dd)), (2, .int (nI z0)), (3, .int w), (4, .long (lN z1)), (6, .int of_), (7, .int (nI i)), (8, .int (nI (z1 % n)))] dX4_drawn_119 (by decide) rfl ?_
                  refine z_aload_n (pc := 121) gX 0 dX4_drawn_121 rfl rfl ?_
                  refine z_get (pc := 122) gX (zI_ok gX hAX) (zm 0 rfl) (ci := 4) (C := RX4) (T := TX4) (N := 20) rfl in_X4 14 (by decide) q1397 (fun _ h => h) (v := .ref (ad 10)) rfl dX4_drawn_122 ?_
                  refine z_iconst (pc := 125) gX 2 dX4_drawn_125 (by decide) ?_
                  refine z_iload (pc := 126) gX 7 dX4_drawn_126 rfl ?_
                  refine z_iadd (pc := 128) gX dX4_drawn_128 ?_
                  refine z_top (nI (2 + z1 % n)) (nI_add 2 (z1 % n)) ?_
                  refine z_iald (pc := 129) gX (zI_ok gX hAX) (j := (2 + z1 % n)) (n := 25) (f := (upd t2 1 (nI (z1 % 3)))) (zm 2 rfl) (by omega) (by decide) dX4_drawn_129 ?_
                  refine z_bipush (pc := 130) gX 99 dX4_drawn_130 (by decide) ?_
                  refine z_icmp_ne (pc := 132) gX 162 dX4_drawn_132 (by decide) (fun c132 => ?_) (fun c132 => ?_)
                  · skip
                    refine z_aload_n (pc := 162) gX 0 dX4_drawn_162 rfl rfl ?_
                    refine z_get (pc := 163) gX (zI_ok gX hAX) (zm 0 rfl) (ci := 4) (C := RX4) (T := TX4) (N := 20) rfl in_X4 14 (by decide) q1397 (fun _ h => h) (v := .ref (ad 10)) rfl dX4_drawn_163 ?_
                    refine z_cOS (pc := 166) gX (zI_ok gX hAX) [.ref (ad 10)] [] [2] (met_X4_offIn l D B0 (ad 10) (upd t2 1 (nI (z1 % 3))) n (by first | (rw [pk_un (by omega)]; exact (hfr 17 (by omega)).trans hn) | (rw [pk_un (by omega), pk_un (by omega), pk_un (by omega)]; exact (hfr 17 (by omega)).trans hn)) (by first | assumption | omega)) q1553 q1554 q54 q1555 hd_X4_offIn ⟨rfl, rfl⟩ ⟨(Nat.le_of_ble_eq_true rfl), (Nat.le_of_ble_eq_true rfl)⟩ rfl rfl rfl (Nat.le_of_ble_eq_true rfl) ⟨(Nat.le_of_ble_eq_true rfl), (Nat.le_of_ble_eq_true rfl)⟩ dX4_drawn_166 ?_
                    intro _ hu166
                    refine z_eq (lv₂ := [(0, .ref o), (1, .int (nI dd)), (2, .int (nI z0)), (3, .int w), (4, .long (lN z1)), (6, .int of_), (7, .int (nI i)), (8, .int (nI (z1 % n)))]) (st₂ := [.int (nI (cntV (upd t2 1 (nI (z1 % 3))) 99 n))]) ?_ rfl rfl
                    refine z_istore (pc := 169) gX [1, 2, 3, 4, 5, 6, 7, 8, 0] [(0, .ref o), (1, .int (nI dd)), (2, .int (nI z0)), (3, .int w), (4, .long (lN z1)), (6, .int of_), (7, .int (nI i)), (8, .int (nI (z1 % n))), (9, .int (nI (cntV (upd t2 1 (nI (z1 % 3))) 99 n)))] dX4_drawn_169 (by decide) rfl ?_
                    refine z_aload_n (pc := 171) gX 0 dX4_drawn_171 rfl rfl ?_
                    refine z_aload_n (pc := 172) gX 0 dX4_drawn_172 rfl rfl ?_
                    refine z_get (pc := 173) gX (zI_ok gX hAX) (zm 0 rfl) (ci := 4) (C := RX4) (T := TX4) (N := 20) rfl in_X4 14 (by decide) q1397 (fun _ h => h) (v := .ref (ad 10)) rfl dX4_drawn_173 ?_
                    refine z_cMV (pc := 176) gX hAX [.ref (ad 10)] [] [0, 3, 2] [1] (fun A1 => met_X4_tick l D B0 A1 o ad x (ad 10) w2 (upd t2 1 (nI (z1 % 3))) n k (by first | (rw [pk_un (by omega)]; exact (hfr 17 (by omega)).trans hn) | (rw [pk_un (by omega), pk_un (by omega), pk_un (by omega)]; exact (hfr 17 (by omega)).trans hn)) (by first | assumption | omega) (by first | (rw [pk_un (by omega)]; exact (hfr 16 (by omega)).trans hk) | (rw [pk_un (by omega), pk_un (by omega), pk_un (by omega)]; exact (hfr 16 (by omega)).trans hk)) (by first | assumption | omega)) q1537 q1539 qs37 q54 q1540 (zm 0 rfl) (ci := 4) rfl rfl hd_X4_tick ⟨rfl, rfl⟩ ⟨(Nat.le_of_ble_eq_true rfl), (Nat.le_of_ble_eq_true rfl)⟩ rfl rfl rfl rfl rfl (Nat.le_of_ble_eq_true rfl) ⟨(Nat.le_of_ble_eq_true rfl), (Nat.le_of_ble_eq_true rfl)⟩ dX4_drawn_176 ?_
                    intro u176 hu176
                    obtain ⟨wn1_176, rfl⟩ : ∃ z, z = u176 := ⟨_, rfl⟩
                    refine z_re [0, 3, 2, 1] [mOb o ad x, [(ad 5, .inl (D.1 100, 25, .inl c))], [(ad 10, .inl (D.1 100, 25, .inl (mTick n k (upd t2 1 (nI (z1 % 3))))))], [(ad 11, .inl (D.1 100, 25, .inl wn1_176))]] rfl rfl ?_
                    refine z_eq (lv₂ := [(0, .ref o), (1, .int (nI dd)), (2, .int (nI z0)), (3, .int w), (4, .long (lN z1)), (6, .int of_), (7, .int (nI i)), (8, .int (nI (z1 % n))), (9, .int (nI (cntV (upd t2 1 (nI (z1 % 3))) 99 n)))]) (st₂ := []) ?_ rfl rfl
                    refine z_iload (pc := 179) gX 5 dX4_drawn_179 rfl ?_
                    refine z_aload_n (pc := 181) gX 0 dX4_drawn_181 rfl rfl ?_
                    refine z_get (pc := 182) gX (zI_ok gX hAX) (zm 0 rfl) (ci := 4) (C := RX4) (T := TX4) (N := 20) rfl in_X4 14 (by decide) q1397 (fun _ h => h) (v := .ref (ad 10)) rfl dX4_drawn_182 ?_
                    refine z_cOS (pc := 185) gX (zI_ok gX hAX) [.ref (ad 10)] [.int of_] [2] (met_X4_offIn l D B0 (ad 10) (mTick n k (upd t2 1 (nI (z1 % 3)))) n ((FrT.tick hn7 17 (by omega)).trans (by first | (rw [pk_un (by omega)]; exact (hfr 17 (by omega)).trans hn) | (rw [pk_un (by omega), pk_un (by omega), pk_un (by omega)]; exact (hfr 17 (by omega)).trans hn))) (by first | assumption | omega)) q1553 q1554 q54 q1555 hd_X4_offIn ⟨rfl, rfl⟩ ⟨(Nat.le_of_ble_eq_true rfl), (Nat.le_of_ble_eq_true rfl)⟩ rfl rfl rfl (Nat.le_of_ble_eq_true rfl) ⟨(Nat.le_of_ble_eq_true rfl), (Nat.le_of_ble_eq_true rfl)⟩ dX4_drawn_185 ?_
                    intro _ hu185
                    refine z_eq (lv₂ := [(0, .ref o), (1, .int (nI dd)), (2, .int (nI z0)), (3, .int w), (4, .long (lN z1)), (6, .int of_), (7, .int (nI i)), (8, .int (nI (z1 % n))), (9, .int (nI (cntV (upd t2 1 (nI (z1 % 3))) 99 n)))]) (st₂ := [.int (nI (cntV (mTick n k (upd t2 1 (nI (z1 % 3)))) 99 n)), .int of_]) ?_ rfl rfl
                    refine z_iload (pc := 188) gX 8 dX4_drawn_188 rfl ?_
                    refine z_isub (pc := 190) gX dX4_drawn_190 ?_
                    refine z_iadd (pc := 191) gX dX4_drawn_191 ?_
                    refine z_istore (pc := 192) gX [1, 2, 3, 4, 5, 0, 6, 7, 8] [(0, .ref o), (1, .int (nI dd)), (2, .int (nI z0)), (3, .int w), (4, .long (lN z1)), (6, .int (of_ + ((nI (cntV (mTick n k (upd t2 1 (nI (z1 % 3)))) 99 n)) - (nI (cntV (upd t2 1 (nI (z1 % 3))) 99 n))))), (7, .int (nI i)), (8, .int (nI (z1 % n))), (9, .int (nI (cntV (upd t2 1 (nI (z1 % 3))) 99 n)))] dX4_drawn_192 (by decide) rfl ?_
                    refine z_iinc (pc := 194) gX 6 (nI (i + 1)) [1, 2, 3, 4, 5, 6, 0, 7, 8] [(0, .ref o), (1, .int (nI dd)), (2, .int (nI z0)), (3, .int w), (4, .long (lN z1)), (6, .int (of_ + ((nI (cntV (mTick n k (upd t2 1 (nI (z1 % 3)))) 99 n)) - (nI (cntV (upd t2 1 (nI (z1 % 3))) 99 n))))), (7, .int (nI (i + 1))), (8, .int (nI (z1 % n))), (9, .int (nI (cntV (upd t2 1 (nI (z1 % 3))) 99 n)))] dX4_drawn_194 rfl (nI_1 _) (by decide) rfl ?_
                    refine z_goto (pc := 197) gX 56 dX4_drawn_197 (by decide) ?_
                    refine z_lv [0, 1, 2, 3, 4, 5, 6] [(0, .ref o), (1, .int (nI dd)), (2, .int (nI z0)), (3, .int w), (4, .long (lN z1)), (6, .int (of_ + ((nI (cntV (mTick n k (upd t2 1 (nI (z1 % 3)))) 99 n)) - (nI (cntV (upd t2 1 (nI (z1 % 3))) 99 n))))), (7, .int (nI (i + 1)))] rfl ?_
                    exact ih56 (i + 1) z1 (of_ + ((nI (cntV (mTick n k (upd t2 1 (nI (z1 % 3)))) 99 n)) - (nI (cntV (upd t2 1 (nI (z1 % 3))) 99 n)))) (mTick n k (upd t2 1 (nI (z1 % 3)))) wn1_176 (by omega) (by omega) (by rw [show dwS n k (z0, 0, c) (i + 1) = dwStep n k (dwS n k (z0, 0, c) i) from rfl, ← hp]; simp only [dwStep, ← hz1, dwC1, if_pos h4, dwC2]; rw [if_neg c132]) (fun j hj => ((FrT.tick hn7 j (by omega)).trans (by rw [pk_un (by omega)])).trans (hfr j hj)) (by omega)
                  · skip
                    refine z_aload_n (pc := 135) gX 0 dX4_drawn_135 rfl rfl ?_
                    refine z_get (pc := 136) gX (zI_ok gX hAX) (zm 0 rfl) (ci := 4) (C := RX4) (T := TX4) (N := 20) rfl in_X4 14 (by decide) q1397 (fun _ h => h) (v := .ref (ad 10)) rfl dX4_drawn_136 ?_
                    refine z_iconst (pc := 139) gX 2 dX4_drawn_139 (by decide) ?_
                    refine z_iload (pc := 140) gX 7 dX4_drawn_140 rfl ?_
                    refine z_iadd (pc := 142) gX dX4_drawn_142 ?_
                    refine z_top (nI (2 + z1 % n)) (nI_add 2 (z1 % n)) ?_
                    refine z_iconst (pc := 143) gX (-1) dX4_drawn_143 (by decide) ?_
                    refine z_iast (pc := 144) gX hAX 2 (j := (2 + z1 % n)) (n := 25) (f := (upd t2 1 (nI (z1 % 3)))) rfl (by omega) (by decide) [mOb o ad x, [(ad 5, .inl (D.1 100, 25, .inl c))], [(ad 10, .inl (D.1 100, 25, .inl (upd (upd t2 1 (nI (z1 % 3))) (2 + z1 % n) (-1))))], [(ad 11, .inl (D.1 100, 25, .inl w2))]] rfl dX4_drawn_144 ?_
                    refine z_aload_n (pc := 145) gX 0 dX4_drawn_145 rfl rfl ?_
                    refine z_get (pc := 146) gX (zI_ok gX hAX) (zm 0 rfl) (ci := 4) (C := RX4) (T := TX4) (N := 20) rfl in_X4 14 (by decide) q1397 (fun _ h => h) (v := .ref (ad 10)) rfl dX4_drawn_146 ?_
                    refine z_bipush (pc := 149) gX 9 dX4_drawn_149 (by decide) ?_
                    refine z_iload (pc := 151) gX 7 dX4_drawn_151 rfl ?_
                    refine z_iadd (pc := 153) gX dX4_drawn_153 ?_
                    refine z_top (nI (9 + z1 % n)) (nI_add 9 (z1 % n)) ?_
                    refine z_lload (pc := 154) gX 4 dX4_drawn_154 rfl ?_
                    refine z_ldc2_w (pc := 156) gX q1653 dX4_drawn_156 ?_
                    refine z_lrem (pc := 159) gX dX4_drawn_159 (by decide) ?_
                    refine z_l2i (pc := 160) gX dX4_drawn_160 ?_
                    refine z_top (nI (z1 % 2)) (l2 (b := 2) (by omega) (by omega) (by omega)) ?_
                    refine z_iast (pc := 161) gX hAX 2 (j := (9 + z1 % n)) (n := 25) (f := (upd (upd t2 1 (nI (z1 % 3))) (2 + z1 % n) (-1))) rfl (by omega) (by decide) [mOb o ad x, [(ad 5, .inl (D.1 100, 25, .inl c))], [(ad 10, .inl (D.1 100, 25, .inl (upd (upd (upd t2 1 (nI (z1 % 3))) (2 + z1 % n) (-1)) (9 + z1 % n) (nI (z1 % 2)))))], [(ad 11, .inl (D.1 100, 25, .inl w2))]] rfl dX4_drawn_161 ?_
                    refine z_aload_n (pc := 162) gX 0 dX4_drawn_162 rfl rfl ?_
                    refine z_get (pc := 163) gX (zI_ok gX hAX) (zm 0 rfl) (ci := 4) (C := RX4) (T := TX4) (N := 20) rfl in_X4 14 (by decide) q1397 (fun _ h => h) (v := .ref (ad 10)) rfl dX4_drawn_163 ?_
                    refine z_cOS (pc := 166) gX (zI_ok gX hAX) [.ref (ad 10)] [] [2] (met_X4_offIn l D B0 (ad 10) (upd (upd (upd t2 1 (nI (z1 % 3))) (2 + z1 % n) (-1)) (9 + z1 % n) (nI (z1 % 2))) n (by first | (rw [pk_un (by omega)]; exact (hfr 17 (by omega)).trans hn) | (rw [pk_un (by omega), pk_un (by omega), pk_un (by omega)]; exact (hfr 17 (by omega)).trans hn)) (by first | assumption | omega)) q1553 q1554 q54 q1555 hd_X4_offIn ⟨rfl, rfl⟩ ⟨(Nat.le_of_ble_eq_true rfl), (Nat.le_of_ble_eq_true rfl)⟩ rfl rfl rfl (Nat.le_of_ble_eq_true rfl) ⟨(Nat.le_of_ble_eq_true rfl), (Nat.le_of_ble_eq_true rfl)⟩ dX4_drawn_166 ?_
                    intro _ hu166
                    refine z_eq (lv₂ := [(0, .ref o), (1, .int (nI dd)), (2, .int (nI z0)), (3, .int w), (4, .long (lN z1)), (6, .int of_), (7, .int (nI i)), (8, .int (nI (z1 % n)))]) (st₂ := [.int (nI (cntV (upd (upd (upd t2 1 (nI (z1 % 3))) (2 + z1 % n) (-1)) (9 + z1 % n) (nI (z1 % 2))) 99 n))]) ?_ rfl rfl
                    refine z_istore (pc := 169) gX [1, 2, 3, 4, 5, 6, 7, 8, 0] [(0, .ref o), (1, .int (nI dd)), (2, .int (nI z0)), (3, .int w), (4, .long (lN z1)), (6, .int of_), (7, .int (nI i)), (8, .int (nI (z1 % n))), (9, .int (nI (cntV (upd (upd (upd t2 1 (nI (z1 % 3))) (2 + z1 % n) (-1)) (9 + z1 % n) (nI (z1 % 2))) 99 n)))] dX4_drawn_169 (by decide) rfl ?_
                    refine z_aload_n (pc := 171) gX 0 dX4_drawn_171 rfl rfl ?_
                    refine z_aload_n (pc := 172) gX 0 dX4_drawn_172 rfl rfl ?_
                    refine z_get (pc := 173) gX (zI_ok gX hAX) (zm 0 rfl) (ci := 4) (C := RX4) (T := TX4) (N := 20) rfl in_X4 14 (by decide) q1397 (fun _ h => h) (v := .ref (ad 10)) rfl dX4_drawn_173 ?_
                    refine z_cMV (pc := 176) gX hAX [.ref (ad 10)] [] [0, 3, 2] [1] (fun A1 => met_X4_tick l D B0 A1 o ad x (ad 10) w2 (upd (upd (upd t2 1 (nI (z1 % 3))) (2 + z1 % n) (-1)) (9 + z1 % n) (nI (z1 % 2))) n k (by first | (rw [pk_un (by omega)]; exact (hfr 17 (by omega)).trans hn) | (rw [pk_un (by omega), pk_un (by omega), pk_un (by omega)]; exact (hfr 17 (by omega)).trans hn)) (by first | assumption | omega) (by first | (rw [pk_un (by omega)]; exact (hfr 16 (by omega)).trans hk) | (rw [pk_un (by omega), pk_un (by omega), pk_un (by omega)]; exact (hfr 16 (by omega)).trans hk)) (by first | assumption | omega)) q1537 q1539 qs37 q54 q1540 (zm 0 rfl) (ci := 4) rfl rfl hd_X4_tick ⟨rfl, rfl⟩ ⟨(Nat.le_of_ble_eq_true rfl), (Nat.le_of_ble_eq_true rfl)⟩ rfl rfl rfl rfl rfl (Nat.le_of_ble_eq_true rfl) ⟨(Nat.le_of_ble_eq_true rfl), (Nat.le_of_ble_eq_true rfl)⟩ dX4_drawn_176 ?_
                    intro u176 hu176
                    obtain ⟨wn1_176, rfl⟩ : ∃ z, z = u176 := ⟨_, rfl⟩
                    refine z_re [0, 3, 2, 1] [mOb o ad x, [(ad 5, .inl (D.1 100, 25, .inl c))], [(ad 10, .inl (D.1 100, 25, .inl (mTick n k (upd (upd (upd t2 1 (nI (z1 % 3))) (2 + z1 % n) (-1)) (9 + z1 % n) (nI (z1 % 2))))))], [(ad 11, .inl (D.1 100, 25, .inl wn1_176))]] rfl rfl ?_
                    refine z_eq (lv₂ := [(0, .ref o), (1, .int (nI dd)), (2, .int (nI z0)), (3, .int w), (4, .long (lN z1)), (6, .int of_), (7, .int (nI i)), (8, .int (nI (z1 % n))), (9, .int (nI (cntV (upd (upd (upd t2 1 (nI (z1 % 3))) (2 + z1 % n) (-1)) (9 + z1 % n) (nI (z1 % 2))) 99 n)))]) (st₂ := []) ?_ rfl rfl
                    refine z_iload (pc := 179) gX 5 dX4_drawn_179 rfl ?_
                    refine z_aload_n (pc := 181) gX 0 dX4_drawn_181 rfl rfl ?_
                    refine z_get (pc := 182) gX (zI_ok gX hAX) (zm 0 rfl) (ci := 4) (C := RX4) (T := TX4) (N := 20) rfl in_X4 14 (by decide) q1397 (fun _ h => h) (v := .ref (ad 10)) rfl dX4_drawn_182 ?_
                    refine z_cOS (pc := 185) gX (zI_ok gX hAX) [.ref (ad 10)] [.int of_] [2] (met_X4_offIn l D B0 (ad 10) (mTick n k (upd (upd (upd t2 1 (nI (z1 % 3))) (2 + z1 % n) (-1)) (9 + z1 % n) (nI (z1 % 2)))) n ((FrT.tick hn7 17 (by omega)).trans (by first | (rw [pk_un (by omega)]; exact (hfr 17 (by omega)).trans hn) | (rw [pk_un (by omega), pk_un (by omega), pk_un (by omega)]; exact (hfr 17 (by omega)).trans hn))) (by first | assumption | omega)) q1553 q1554 q54 q1555 hd_X4_offIn ⟨rfl, rfl⟩ ⟨(Nat.le_of_ble_eq_true rfl), (Nat.le_of_ble_eq_true rfl)⟩ rfl rfl rfl (Nat.le_of_ble_eq_true rfl) ⟨(Nat.le_of_ble_eq_true rfl), (Nat.le_of_ble_eq_true rfl)⟩ dX4_drawn_185 ?_
                    intro _ hu185
                    refine z_eq (lv₂ := [(0, .ref o), (1, .int (nI dd)), (2, .int (nI z0)), (3, .int w), (4, .long (lN z1)), (6, .int of_), (7, .int (nI i)), (8, .int (nI (z1 % n))), (9, .int (nI (cntV (upd (upd (upd t2 1 (nI (z1 % 3))) (2 + z1 % n) (-1)) (9 + z1 % n) (nI (z1 % 2))) 99 n)))]) (st₂ := [.int (nI (cntV (mTick n k (upd (upd (upd t2 1 (nI (z1 % 3))) (2 + z1 % n) (-1)) (9 + z1 % n) (nI (z1 % 2)))) 99 n)), .int of_]) ?_ rfl rfl
                    refine z_iload (pc := 188) gX 8 dX4_drawn_188 rfl ?_
                    refine z_isub (pc := 190) gX dX4_drawn_190 ?_
                    refine z_iadd (pc := 191) gX dX4_drawn_191 ?_
                    refine z_istore (pc := 192) gX [1, 2, 3, 4, 5, 0, 6, 7, 8] [(0, .ref o), (1, .int (nI dd)), (2, .int (nI z0)), (3, .int w), (4, .long (lN z1)), (6, .int (of_ + ((nI (cntV (mTick n k (upd (upd (upd t2 1 (nI (z1 % 3))) (2 + z1 % n) (-1)) (9 + z1 % n) (nI (z1 % 2)))) 99 n)) - (nI (cntV (upd (upd (upd t2 1 (nI (z1 % 3))) (2 + z1 % n) (-1)) (9 + z1 % n) (nI (z1 % 2))) 99 n))))), (7, .int (nI i)), (8, .int (nI (z1 % n))), (9, .int (nI (cntV (upd (upd (upd t2 1 (nI (z1 % 3))) (2 + z1 % n) (-1)) (9 + z1 % n) (nI (z1 % 2))) 99 n)))] dX4_drawn_192 (by decide) rfl ?_
                    refine z_iinc (pc := 194) gX 6 (nI (i + 1)) [1, 2, 3, 4, 5, 6, 0, 7, 8] [(0, .ref o), (1, .int (nI dd)), (2, .int (nI z0)), (3, .int w), (4, .long (lN z1)), (6, .int (of_ + ((nI (cntV (mTick n k (upd (upd (upd t2 1 (nI (z1 % 3))) (2 + z1 % n) (-1)) (9 + z1 % n) (nI (z1 % 2)))) 99 n)) - (nI (cntV (upd (upd (upd t2 1 (nI (z1 % 3))) (2 + z1 % n) (-1)) (9 + z1 % n) (nI (z1 % 2))) 99 n))))), (7, .int (nI (i + 1))), (8, .int (nI (z1 % n))), (9, .int (nI (cntV (upd (upd (upd t2 1 (nI (z1 % 3))) (2 + z1 % n) (-1)) (9 + z1 % n) (nI (z1 % 2))) 99 n)))] dX4_drawn_194 rfl (nI_1 _) (by decide) rfl ?_
                    refine z_goto (pc := 197) gX 56 dX4_drawn_197 (by decide) ?_
                    refine z_lv [0, 1, 2, 3, 4, 5, 6] [(0, .ref o), (1, .int (nI dd)), (2, .int (nI z0)), (3, .int w), (4, .long (lN z1)), (6, .int (of_ + ((nI (cntV (mTick n k (upd (upd (upd t2 1 (nI (z1 % 3))) (2 + z1 % n) (-1)) (9 + z1 % n) (nI (z1 % 2)))) 99 n)) - (nI (cntV (upd (upd (upd t2 1 (nI (z1 % 3))) (2 + z1 % n) (-1)) (9 + z1 % n) (nI (z1 % 2))) 99 n))))), (7, .int (nI (i + 1)))] rfl ?_
                    exact ih56 (i + 1) z1 (of_ + ((nI (cntV (mTick n k (upd (upd (upd t2 1 (nI (z1 % 3))) (2 + z1 % n) (-1)) (9 + z1 % n) (nI (z1 % 2)))) 99 n)) - (nI (cntV (upd (upd (upd t2 1 (nI (z1 % 3))) (2 + z1 % n) (-1)) (9 + z1 % n) (nI (z1 % 2))) 99 n)))) (mTick n k (upd (upd (upd t2 1 (nI (z1 % 3))) (2 + z1 % n) (-1)) (9 + z1 % n) (nI (z1 % 2)))) wn1_176 (by omega) (by omega) (by rw [show dwS n k (z0, 0, c) (i + 1) = dwStep n k (dwS n k (z0, 0, c) i) from rfl, ← hp]; simp only [dwStep, ← hz1, dwC1, if_pos h4, dwC2]; rw [if_pos c132]) (fun j hj => ((FrT.tick hn7 j (by omega)).trans (by rw [pk_un (by omega), pk_un (by omega)]; rw [pk_un (by omega)])).trans (hfr j hj)) (by omega)
          exact L56 ((dd - 0) + 1) 0 z0 0 c wn (by omega) (by omega) rfl (fun _ _ => rfl) (Nat.lt_succ_self _)
        · skip
          have k36 : (mIn w 0 1) = false := bI_eq0 c36
          refine z_ldc (pc := 39) gX q1455 dX4_drawn_39 ?_
          exact z_rim gX hQX (th, wn) trivial (zsv (by simp [mDrawn, of_decide_eq_true k4, k4, k17, k27, k36])) rfl (by first | decide | omega) (by first | decide | omega) dX4_drawn_41
  · skip
    have k4 : (decide (0 < c 17)) = false := bI_eq0 c4
    refine z_ldc (pc := 7) gX q1532 dX4_drawn_7 ?_
    exact z_rim gX hQX (th, wn) trivial (zsv (by simp [mDrawn, of_decide_eq_false k4])) rfl (by first | decide | omega) (by first | decide | omega) dX4_drawn_9
theorem hd_X4_drawn : zHd yX4_drawn 3 := by unfold zHd; decide +kernel

