set_option maxRecDepth 100000
/-! THE READER: look, next, is -/
def lkA (tp : Nat → Int32) (t i : Nat) : Int32 := if i < t then tp i else -1000000
def dgN (tp : Nat → Int32) (t : Nat) : Nat → Nat → Nat
  | 0, _ => 0
  | f + 1, p => if isDg (lkA tp t p) = true then dgN tp t f (p + 1) + 1 else 0
/-- how many figures from p on -/
def nxD (tp : Nat → Int32) (t p : Nat) : Nat := dgN tp t (t - p) p
def nxP (tp : Nat → Int32) (t p : Nat) : Nat := if p < t then (if isDg (tp p) = true then p + nxD tp t p else p + 1) else p
def nxT (tp : Nat → Int32) (t p : Nat) : Int32 := if p < t then (if mIn (tp p) 97 122 = true then 1 else if isDg (tp p) = true then (if 2 < nxD tp t p then 4 else 2) else if tp p = 44 ∨ tp p = 59 then 3 else 4) else 0
def nxV (tp : Nat → Int32) (t p : Nat) : Int32 := if p < t then (if isDg (tp p) = true then (if nxD tp t p = 1 then tp p - 48 else 10 * (tp p - 48) + tp (p + 1) - 48) else tp p) else -1000000
theorem dgN_0 {tp : Nat → Int32} {t p : Nat} (h : isDg (lkA tp t p) = false) : nxD tp t p = 0 := by
  unfold nxD
  cases e : t - p with
  | zero => rfl
  | succ f => simp only [dgN, h]; rfl
theorem dg_lt {tp : Nat → Int32} {t p : Nat} (h : isDg (lkA tp t p) = true) : p < t := by
  by_cases e : p < t
  · exact e
  · simp only [lkA, if_neg e] at h; exact absurd h (by decide)
theorem dgN_s {tp : Nat → Int32} {t p : Nat} (h : isDg (lkA tp t p) = true) : nxD tp t p = nxD tp t (p + 1) + 1 := by
  have hp := dg_lt h
  unfold nxD
  rw [show t - p = (t - (p + 1)) + 1 by omega]
  simp only [dgN, h, if_true]
theorem nxD_le {tp : Nat → Int32} {t : Nat} : ∀ f p, dgN tp t f p ≤ f
  | 0, _ => Nat.le_refl _
  | f + 1, p => by simp only [dgN]; have := nxD_le (tp := tp) (t := t) f (p + 1); split <;> omega
theorem let_dg {v : Int32} (h : mIn v 97 122 = true) : isDg v = false := by
  cases e : isDg v with
  | false => rfl
  | true =>
    simp only [isDg, mIn, Bool.and_eq_true, decide_eq_true_eq] at h e
    exact absurd (Int32.le_trans h.1 e.2) (by decide)

set_option maxHeartbeats 4000000 in
theorem met_X5_look (l : Launch) (D : va_G) (B0 : Nat) (q : Nat) (tx : Nat) (t : Nat) (p : Nat) (tk : Int32) (fr : Nat) (vl : Int32) (ma : Nat) (bt : Nat → Int32) (tp : Nat → Int32) (ht90 : t ≤ 90) (hp90 : p ≤ 90) (hb : ∀ i, i < t → bt i &&& 255 = tp i) (hr : ∀ i, i < t → mIn (tp i) 0 255 = true) : Met l yX5_look (ws_ yX5_look cX5_look 1 (some .int)) (zRm 1 0 0) (va_Pc [.ref q] (zPreO B0 D [[(q, .inr (5, [.ref tx, .int (nI t), .int (nI p), .int tk, .int (nI fr), .int vl, .ref ma]))], [(tx, .inl (D.1 101, 90, .inl bt))]])) (zQo (S := Unit) (fun _ => True) (fun _ => some (.int (lkA tp t p)))) 0 0 (fun _ => False) := by
  refine z_entryo (by decide +kernel) (Nat.le_of_ble_eq_true rfl) (fun pX eX sX mX argsX blX mtX cX QX hQX gX => ?_)
  refine z_eq (lv₂ := [(0, .ref q)]) (st₂ := []) ?_ rfl rfl
  refine z_aload_n (pc := 0) gX 0 dX5_look_0 rfl rfl ?_
  refine z_get (pc := 1) gX (zIo_ok gX) (zm 0 rfl) (ci := 5) (C := RX5) (T := TX5) (N := 7) rfl in_X5 2 (by decide) q474 (fun _ h => h) (v := .int (nI p)) rfl dX5_look_1 ?_
  refine z_aload_n (pc := 4) gX 0 dX5_look_4 rfl rfl ?_
  refine z_get (pc := 5) gX (zIo_ok gX) (zm 0 rfl) (ci := 5) (C := RX5) (T := TX5) (N := 7) rfl in_X5 1 (by decide) q473 (fun _ h => h) (v := .int (nI t)) rfl dX5_look_5 ?_
  refine z_icmp_ge (pc := 8) gX 27 dX5_look_8 (by decide) (fun c8 => ?_) (fun c8 => ?_)
  · skip
    have k8 : t ≤ p := (zn_le (a := t) (b := p) (by omega) (by omega)).mp c8
    refine z_ldc (pc := 27) gX q507 dX5_look_27 ?_
    exact z_rio gX hQX (by rw [lkA, if_neg (by omega)]) dX5_look_29
  · skip
    have k8 : p < t := (zn_nle (a := t) (b := p) (by omega) (by omega)).mp c8
    refine z_aload_n (pc := 11) gX 0 dX5_look_11 rfl rfl ?_
    refine z_get (pc := 12) gX (zIo_ok gX) (zm 0 rfl) (ci := 5) (C := RX5) (T := TX5) (N := 7) rfl in_X5 0 (by decide) q472 (fun _ h => h) (v := .ref tx) rfl dX5_look_12 ?_
    refine z_aload_n (pc := 15) gX 0 dX5_look_15 rfl rfl ?_
    refine z_get (pc := 16) gX (zIo_ok gX) (zm 0 rfl) (ci := 5) (C := RX5) (T := TX5) (N := 7) rfl in_X5 2 (by decide) q474 (fun _ h => h) (v := .int (nI p)) rfl dX5_look_16 ?_
    refine z_bald (pc := 19) gX (zIo_ok gX) (j := p) (n := 90) (f := bt) (zm 1 rfl) (by omega) (by decide) dX5_look_19 ?_
    refine z_sipush (pc := 20) gX 255 dX5_look_20 (by decide) ?_
    refine z_iand (pc := 23) gX dX5_look_23 ?_
    refine z_goto (pc := 24) gX 29 dX5_look_24 (by decide) ?_
    exact z_rio gX hQX (by rw [lkA, if_pos (by omega)]; exact hb p (by omega)) dX5_look_29
theorem hd_X5_look : zHd yX5_look 0 := by unfold zHd; decide +kernel

set_option maxHeartbeats 4000000 in
theorem met_X5_is (l : Launch) (D : va_G) (B0 : Nat) (q : Nat) (tx : Nat) (t : Nat) (p : Nat) (tk : Int32) (fr : Nat) (vl : Int32) (ma : Nat) (bt : Nat → Int32) (tp : Nat → Int32) (a : Int32) (b : Int32)  : Met l yX5_is (ws_ yX5_is cX5_is 3 (some .boolean)) (zRm 1 0 0) (va_Pc [.ref q, .int a, .int b] (zPreO B0 D [[(q, .inr (5, [.ref tx, .int (nI t), .int (nI p), .int tk, .int (nI fr), .int vl, .ref ma]))]])) (zQo (S := Unit) (fun _ => True) (fun _ => some (.int (bI (decide (tk = a) && decide (vl = b)))))) 0 0 (fun _ => False) := by
  refine z_entryo (by decide +kernel) (Nat.le_of_ble_eq_true rfl) (fun pX eX sX mX argsX blX mtX cX QX hQX gX => ?_)
  refine z_eq (lv₂ := [(0, .ref q), (1, .int a), (2, .int b)]) (st₂ := []) ?_ rfl rfl
  refine z_aload_n (pc := 0) gX 0 dX5_is_0 rfl rfl ?_
  refine z_get (pc := 1) gX (zIo_ok gX) (zm 0 rfl) (ci := 5) (C := RX5) (T := TX5) (N := 7) rfl in_X5 3 (by decide) q475 (fun _ h => h) (v := .int tk) rfl dX5_is_1 ?_
  refine z_iload_n (pc := 4) gX 1 dX5_is_4 rfl rfl ?_
  refine z_icmp_ne (pc := 5) gX 20 dX5_is_5 (by decide) (fun c5 => ?_) (fun c5 => ?_)
  · skip
    refine z_iconst (pc := 20) gX 0 dX5_is_20 (by decide) ?_
    exact z_rzo gX hQX (by simp [c5, bI]) dX5_is_21
  · skip
    refine z_aload_n (pc := 8) gX 0 dX5_is_8 rfl rfl ?_
    refine z_get (pc := 9) gX (zIo_ok gX) (zm 0 rfl) (ci := 5) (C := RX5) (T := TX5) (N := 7) rfl in_X5 5 (by decide) q477 (fun _ h => h) (v := .int vl) rfl dX5_is_9 ?_
    refine z_iload_n (pc := 12) gX 2 dX5_is_12 rfl rfl ?_
    refine z_icmp_ne (pc := 13) gX 20 dX5_is_13 (by decide) (fun c13 => ?_) (fun c13 => ?_)
    · skip
      refine z_iconst (pc := 20) gX 0 dX5_is_20 (by decide) ?_
      exact z_rzo gX hQX (by simp [c5, c13, bI]) dX5_is_21
    · skip
      refine z_iconst (pc := 16) gX 1 dX5_is_16 (by decide) ?_
      refine z_goto (pc := 17) gX 21 dX5_is_17 (by decide) ?_
      exact z_rzo gX hQX (by simp [c5, c13, bI]) dX5_is_21
theorem hd_X5_is : zHd yX5_is 2 := by unfold zHd; decide +kernel

set_option maxHeartbeats 4000000 in
theorem met_X5_next (l : Launch) (D : va_G) (B0 : Nat) (A : Nat → Prop) (q : Nat) (tx : Nat) (t : Nat) (p : Nat) (tk : Int32) (fr : Nat) (vl : Int32) (ma : Nat) (bt : Nat → Int32) (tp : Nat → Int32) (ht90 : t ≤ 90) (hp90 : p ≤ 90) (hb : ∀ i, i < t → bt i &&& 255 = tp i) (hr : ∀ i, i < t → mIn (tp i) 0 255 = true) : Met l yX5_next (ws_ yX5_next cX5_next 2 none) (zRm 4 0 0) (va_Pc [.ref q] (zPre B0 D A [[(q, .inr (5, [.ref tx, .int (nI t), .int (nI p), .int tk, .int (nI fr), .int vl, .ref ma]))], [(tx, .inl (D.1 101, 90, .inl bt))]])) (zQ (S := Unit) (fun _ => True) (fun _ => none) (fun _ => [[(q, .inr (5, [.ref tx, .int (nI t), .int (nI (nxP tp t p)), .int (nxT tp t p), .int (nI p), .int (nxV tp t p), .ref ma]))], [(tx, .inl (D.1 101, 90, .inl bt))]]) D A) 0 0 A := by
  refine z_entry (by decide +kernel) (Nat.le_of_ble_eq_true rfl) (fun pX eX sX mX argsX blX mtX cX QX hQX gX hAX hnm => ?_)
  refine z_eq (lv₂ := [(0, .ref q)]) (st₂ := []) ?_ rfl rfl
  by_cases hpt : p < t
  · skip
    refine z_aload_n (pc := 0) gX 0 dX5_next_0 rfl rfl ?_
    refine z_aload_n (pc := 1) gX 0 dX5_next_1 rfl rfl ?_
    refine z_get (pc := 2) gX (zI_ok gX hAX) (zm 0 rfl) (ci := 5) (C := RX5) (T := TX5) (N := 7) rfl in_X5 2 (by decide) q474 (fun _ h => h) (v := .int (nI p)) rfl dX5_next_2 ?_
    refine z_put (pc := 5) gX hAX 0 rfl (ci := 5) (C := RX5) (T := TX5) (N := 7) rfl in_X5 tyX5 tyX5_ok nmX5 4 (by decide) q476 (fun _ h => h) rfl (v := .int (nI p)) rfl rfl (Nat.le_of_ble_eq_true rfl) [[(q, .inr (5, [.ref tx, .int (nI t), .int (nI p), .int tk, .int (nI p), .int vl, .ref ma]))], [(tx, .inl (D.1 101, 90, .inl bt))]] rfl dX5_next_5 ?_
    refine z_aload_n (pc := 8) gX 0 dX5_next_8 rfl rfl ?_
    refine z_cOV (pc := 9) gX (zI_ok gX hAX) [] [] [0, 1] (met_X5_look l D B0 q tx t p tk p vl ma bt tp (by first | assumption | omega) (by first | assumption | omega) (by first | assumption | omega) (by first | assumption | omega)) q503 q505 qs8 q65 q506 (zm 0 rfl) (ci := 5) rfl rfl hd_X5_look ⟨rfl, rfl⟩ ⟨(Nat.le_of_ble_eq_true rfl), (Nat.le_of_ble_eq_true rfl)⟩ rfl rfl rfl (Nat.le_of_ble_eq_true rfl) ⟨(Nat.le_of_ble_eq_true rfl), (Nat.le_of_ble_eq_true rfl)⟩ dX5_next_9 ?_
    intro _ hu9
    refine z_eq (lv₂ := [(0, .ref q)]) (st₂ := [.int (lkA tp t p)]) ?_ rfl rfl
    refine z_top (tp p) (by rw [lkA, if_pos hpt]) ?_
    refine z_istore_n (pc := 12) gX [1, 0] [(0, .ref q), (1, .int (tp p))] dX5_next_12 rfl (by decide) rfl ?_
    refine z_aload_n (pc := 13) gX 0 dX5_next_13 rfl rfl ?_
    refine z_iload_n (pc := 14) gX 1 dX5_next_14 rfl rfl ?_
    refine z_put (pc := 15) gX hAX 0 rfl (ci := 5) (C := RX5) (T := TX5) (N := 7) rfl in_X5 tyX5 tyX5_ok nmX5 5 (by decide) q477 (fun _ h => h) rfl (v := .int (tp p)) rfl rfl (Nat.le_of_ble_eq_true rfl) [[(q, .inr (5, [.ref tx, .int (nI t), .int (nI p), .int tk, .int (nI p), .int (tp p), .ref ma]))], [(tx, .inl (D.1 101, 90, .inl bt))]] rfl dX5_next_15 ?_
    refine z_aload_n (pc := 18) gX 0 dX5_next_18 rfl rfl ?_
    refine z_dup (pc := 19) gX dX5_next_19 rfl ?_
    refine z_get (pc := 20) gX (zI_ok gX hAX) (zm 0 rfl) (ci := 5) (C := RX5) (T := TX5) (N := 7) rfl in_X5 2 (by decide) q474 (fun _ h => h) (v := .int (nI p)) rfl dX5_next_20 ?_
    refine z_iload_n (pc := 23) gX 1 dX5_next_23 rfl rfl ?_
    refine z_ldc (pc := 24) gX q507 dX5_next_24 ?_
    refine z_icmp_ne (pc := 26) gX 33 dX5_next_26 (by decide) (fun c26 => ?_) (fun c26 => ?_)
    · skip
      refine z_iconst (pc := 33) gX 1 dX5_next_33 (by decide) ?_
      refine z_iadd (pc := 34) gX dX5_next_34 ?_
      refine z_top (nI (p + 1)) (nI_add p 1) ?_
      refine z_put (pc := 35) gX hAX 0 rfl (ci := 5) (C := RX5) (T := TX5) (N := 7) rfl in_X5 tyX5 tyX5_ok nmX5 2 (by decide) q474 (fun _ h => h) rfl (v := .int (nI (p + 1))) rfl rfl (Nat.le_of_ble_eq_true rfl) [[(q, .inr (5, [.ref tx, .int (nI t), .int (nI (p + 1)), .int tk, .int (nI p), .int (tp p), .ref ma]))], [(tx, .inl (D.1 101, 90, .inl bt))]] rfl dX5_next_35 ?_
      refine z_aload_n (pc := 38) gX 0 dX5_next_38 rfl rfl ?_
      refine z_iload_n (pc := 39) gX 1 dX5_next_39 rfl rfl ?_
      refine z_ldc (pc := 40) gX q507 dX5_next_40 ?_
      refine z_icmp_ne (pc := 42) gX 49 dX5_next_42 (by decide) (fun c42 => ?_) (fun c42 => ?_)
      · skip
        refine z_iload_n (pc := 49) gX 1 dX5_next_49 rfl rfl ?_
        refine z_i2l (pc := 50) gX dX5_next_50 ?_
        refine z_ldc2_w (pc := 51) gX q508 dX5_next_51 ?_
        refine z_ldc2_w (pc := 54) gX q509 dX5_next_54 ?_
        refine z_cOSN2 (pc := 57) gX (zI_ok gX hAX) [.long ((tp p).toInt64), .long 97, .long 122] [.ref q] [] (met_X0_isIn l D B0 ((tp p).toInt64) 97 122 ) (zm 11 rfl) q347 q47 hd_X0_isIn q348 ⟨rfl, rfl⟩ ⟨(Nat.le_of_ble_eq_true rfl), (Nat.le_of_ble_eq_true rfl)⟩ rfl rfl rfl (Nat.le_of_ble_eq_true rfl) ⟨(Nat.le_of_ble_eq_true rfl), (Nat.le_of_ble_eq_true rfl)⟩ dX5_next_57 ?_
        intro _ hu57
        refine z_eq (lv₂ := [(0, .ref q), (1, .int (tp p))]) (st₂ := [.int (bI (lIn ((tp p).toInt64) 97 122)), .ref q]) ?_ rfl rfl
        refine z_top (bI (mIn (tp p) 97 122)) (congrArg bI (lIn_eq rfl (by decide) (by decide))) ?_
        refine z_if_eq (pc := 60) gX 67 dX5_next_60 (by decide) (fun c60 => ?_) (fun c60 => ?_)
        · skip
          have k60 : (mIn (tp p) 97 122) = false := bI_eq0 c60
          refine z_iload_n (pc := 67) gX 1 dX5_next_67 rfl rfl ?_
          refine z_i2l (pc := 68) gX dX5_next_68 ?_
          refine z_ldc2_w (pc := 69) gX q511 dX5_next_69 ?_
          refine z_ldc2_w (pc := 72) gX q512 dX5_next_72 ?_
          refine z_cOSN2 (pc := 75) gX (zI_ok gX hAX) [.long ((tp p).toInt64), .long 48, .long 57] [.ref q] [] (met_X0_isIn l D B0 ((tp p).toInt64) 48 57 ) (zm 11 rfl) q347 q47 hd_X0_isIn q348 ⟨rfl, rfl⟩ ⟨(Nat.le_of_ble_eq_true rfl), (Nat.le_of_ble_eq_true rfl)⟩ rfl rfl rfl (Nat.le_of_ble_eq_true rfl) ⟨(Nat.le_of_ble_eq_true rfl), (Nat.le_of_ble_eq_true rfl)⟩ dX5_next_75 ?_
          intro _ hu75
          refine z_eq (lv₂ := [(0, .ref q), (1, .int (tp p))]) (st₂ := [.int (bI (lIn ((tp p).toInt64) 48 57)), .ref q]) ?_ rfl rfl
          refine z_top (bI (mIn (tp p) 48 57)) (congrArg bI (lIn_eq rfl (by decide) (by decide))) ?_
          refine z_if_eq (pc := 78) gX 85 dX5_next_78 (by decide) (fun c78 => ?_) (fun c78 => ?_)
          · skip
            have k78 : (mIn (tp p) 48 57) = false := bI_eq0 c78
            refine z_iload_n (pc := 85) gX 1 dX5_next_85 rfl rfl ?_
            refine z_bipush (pc := 86) gX 44 dX5_next_86 (by decide) ?_
            refine z_icmp_eq (pc := 88) gX 97 dX5_next_88 (by decide) (fun c88 => ?_) (fun c88 => ?_)
            · skip
              refine z_iconst (pc := 97) gX 3 dX5_next_97 (by decide) ?_
              refine z_goto (pc := 98) gX 102 dX5_next_98 (by decide) ?_
              refine z_put (pc := 102) gX hAX 0 rfl (ci := 5) (C := RX5) (T := TX5) (N := 7) rfl in_X5 tyX5 tyX5_ok nmX5 3 (by decide) q475 (fun _ h => h) rfl (v := .int 3) rfl rfl (Nat.le_of_ble_eq_true rfl) [[(q, .inr (5, [.ref tx, .int (nI t), .int (nI (p + 1)), .int 3, .int (nI p), .int (tp p), .ref ma]))], [(tx, .inl (D.1 101, 90, .inl bt))]] rfl dX5_next_102 ?_
              refine z_aload_n (pc := 105) gX 0 dX5_next_105 rfl rfl ?_
              refine z_get (pc := 106) gX (zI_ok gX hAX) (zm 0 rfl) (ci := 5) (C := RX5) (T := TX5) (N := 7) rfl in_X5 3 (by decide) q475 (fun _ h => h) (v := .int 3) rfl dX5_next_106 ?_
              refine z_iconst (pc := 109) gX 2 dX5_next_109 (by decide) ?_
              refine z_icmp_eq (pc := 110) gX 114 dX5_next_110 (by decide) (fun c110 => ?_) (fun c110 => ?_)
              · skip
                have k110 : 3 = 2 := (zn_eq (a := 3) (b := 2) (by omega) (by omega)).mp c110
                exact absurd c110 (by decide)
              · skip
                have k110 : ¬ 3 = 2 := fun h => c110 ((zn_eq (a := 3) (b := 2) (by omega) (by omega)).mpr h)
                exact z_vret gX hQX () trivial rfl (by simp only [nxP, nxT, nxV, if_pos hpt, show isDg (tp p) = false from k78, k60, if_pos (Or.inl c88), Bool.false_eq_true, if_false]) (by first | decide | omega) (by first | decide | omega) dX5_next_113
            · skip
              refine z_iload_n (pc := 91) gX 1 dX5_next_91 rfl rfl ?_
              refine z_bipush (pc := 92) gX 59 dX5_next_92 (by decide) ?_
              refine z_icmp_ne (pc := 94) gX 101 dX5_next_94 (by decide) (fun c94 => ?_) (fun c94 => ?_)
              · skip
                refine z_iconst (pc := 101) gX 4 dX5_next_101 (by decide) ?_
                refine z_put (pc := 102) gX hAX 0 rfl (ci := 5) (C := RX5) (T := TX5) (N := 7) rfl in_X5 tyX5 tyX5_ok nmX5 3 (by decide) q475 (fun _ h => h) rfl (v := .int 4) rfl rfl (Nat.le_of_ble_eq_true rfl) [[(q, .inr (5, [.ref tx, .int (nI t), .int (nI (p + 1)), .int 4, .int (nI p), .int (tp p), .ref ma]))], [(tx, .inl (D.1 101, 90, .inl bt))]] rfl dX5_next_102 ?_
                refine z_aload_n (pc := 105) gX 0 dX5_next_105 rfl rfl ?_
                refine z_get (pc := 106) gX (zI_ok gX hAX) (zm 0 rfl) (ci := 5) (C := RX5) (T := TX5) (N := 7) rfl in_X5 3 (by decide) q475 (fun _ h => h) (v := .int 4) rfl dX5_next_106 ?_
                refine z_iconst (pc := 109) gX 2 dX5_next_109 (by decide) ?_
                refine z_icmp_eq (pc := 110) gX 114 dX5_next_110 (by decide) (fun c110 => ?_) (fun c110 => ?_)
                · skip
                  have k110 : 4 = 2 := (zn_eq (a := 4) (b := 2) (by omega) (by omega)).mp c110
                  exact absurd c110 (by decide)
                · skip
                  have k110 : ¬ 4 = 2 := fun h => c110 ((zn_eq (a := 4) (b := 2) (by omega) (by omega)).mpr h)
                  exact z_vret gX hQX () trivial rfl (by simp only [nxP, nxT, nxV, if_pos hpt, show isDg (tp p) = false from k78, k60, if_neg (show ¬ (tp p = 44 ∨ tp p = 59) from fun h => h.elim c88 c94), Bool.false_eq_true, if_false]) (by first | decide | omega) (by first | decide | omega) dX5_next_113
              · skip
                refine z_iconst (pc := 97) gX 3 dX5_next_97 (by decide) ?_
                refine z_goto (pc := 98) gX 102 dX5_next_98 (by decide) ?_
                refine z_put (pc := 102) gX hAX 0 rfl (ci := 5) (C := RX5) (T := TX5) (N := 7) rfl in_X5 tyX5 tyX5_ok nmX5 3 (by decide) q475 (fun _ h => h) rfl (v := .int 3) rfl rfl (Nat.le_of_ble_eq_true rfl) [[(q, .inr (5, [.ref tx, .int (nI t), .int (nI (p + 1)), .int 3, .int (nI p), .int (tp p), .ref ma]))], [(tx, .inl (D.1 101, 90, .inl bt))]] rfl dX5_next_102 ?_
                refine z_aload_n (pc := 105) gX 0 dX5_next_105 rfl rfl ?_
                refine z_get (pc := 106) gX (zI_ok gX hAX) (zm 0 rfl) (ci := 5) (C := RX5) (T := TX5) (N := 7) rfl in_X5 3 (by decide) q475 (fun _ h => h) (v := .int 3) rfl dX5_next_106 ?_
                refine z_iconst (pc := 109) gX 2 dX5_next_109 (by decide) ?_
                refine z_icmp_eq (pc := 110) gX 114 dX5_next_110 (by decide) (fun c110 => ?_) (fun c110 => ?_)
                · skip
                  have k110 : 3 = 2 := (zn_eq (a := 3) (b := 2) (by omega) (by omega)).mp c110
                  exact absurd c110 (by decide)
                · skip
                  have k110 : ¬ 3 = 2 := fun h => c110 ((zn_eq (a := 3) (b := 2) (by omega) (by omega)).mpr h)
                  exact z_vret gX hQX () trivial rfl (by simp only [nxP, nxT, nxV, if_pos hpt, show isDg (tp p) = false from k78, k60, if_pos (Or.inr c94), Bool.false_eq_true, if_false]) (by first | decide | omega) (by first | decide | omega) dX5_next_113
          · skip
            have k78 : (mIn (tp p) 48 57) = true := bI_ne0 c78
            have hdp : isDg (lkA tp t p) = true := by rw [lkA, if_pos hpt]; exact k78
            have hDs := dgN_s hdp
            refine z_iconst (pc := 81) gX 2 dX5_next_81 (by decide) ?_
            refine z_goto (pc := 82) gX 102 dX5_next_82 (by decide) ?_
            refine z_put (pc := 102) gX hAX 0 rfl (ci := 5) (C := RX5) (T := TX5) (N := 7) rfl in_X5 tyX5 tyX5_ok nmX5 3 (by decide) q475 (fun _ h => h) rfl (v := .int 2) rfl rfl (Nat.le_of_ble_eq_true rfl) [[(q, .inr (5, [.ref tx, .int (nI t), .int (nI (p + 1)), .int 2, .int (nI p), .int (tp p), .ref ma]))], [(tx, .inl (D.1 101, 90, .inl bt))]] rfl dX5_next_102 ?_
            refine z_aload_n (pc := 105) gX 0 dX5_next_105 rfl rfl ?_
            refine z_get (pc := 106) gX (zI_ok gX hAX) (zm 0 rfl) (ci := 5) (C := RX5) (T := TX5) (N := 7) rfl in_X5 3 (by decide) q475 (fun _ h => h) (v := .int 2) rfl dX5_next_106 ?_
            refine z_iconst (pc := 109) gX 2 dX5_next_109 (by decide) ?_
            refine z_icmp_eq (pc := 110) gX 114 dX5_next_110 (by decide) (fun c110 => ?_) (fun c110 => ?_)
            · skip
              have k110 : 2 = 2 := (zn_eq (a := 2) (b := 2) (by omega) (by omega)).mp c110
              refine z_aload_n (pc := 114) gX 0 dX5_next_114 rfl rfl ?_
              refine z_iload_n (pc := 115) gX 1 dX5_next_115 rfl rfl ?_
              refine z_bipush (pc := 116) gX 48 dX5_next_116 (by decide) ?_
              refine z_isub (pc := 118) gX dX5_next_118 ?_
              refine z_put (pc := 119) gX hAX 0 rfl (ci := 5) (C := RX5) (T := TX5) (N := 7) rfl in_X5 tyX5 tyX5_ok nmX5 5 (by decide) q477 (fun _ h => h) rfl (v := .int ((tp p) - 48)) rfl rfl (Nat.le_of_ble_eq_true rfl) [[(q, .inr (5, [.ref tx, .int (nI t), .int (nI (p + 1)), .int 2, .int (nI p), .int ((tp p) - 48), .ref ma]))], [(tx, .inl (D.1 101, 90, .inl bt))]] rfl dX5_next_119 ?_
              have L122 : ∀ (n122 : Nat) (pp : Nat) (vl2 : Int32), (p + 1 ≤ pp) → (pp ≤ 90) → (pp + nxD tp t pp = p + nxD tp t p) → (vl2 = if pp = p + 1 then tp p - 48 else 10 * (tp p - 48) + tp (p + 1) - 48) → 90 - pp < n122 → zJ pX l eX (zRm 4 0 0) sX mX argsX blX mtX cX QX 2 (zI D A sX [[(q, .inr (5, [.ref tx, .int (nI t), .int (nI pp), .int 2, .int (nI p), .int vl2, .ref ma]))], [(tx, .inl (D.1 101, 90, .inl bt))]]) 0 0 122 [(0, .ref q), (1, .int (tp p))] [] := by
                intro n122
                induction n122 with
                | zero => exact fun pp vl2 h1 h2 hrun hvl hm122 => absurd hm122 (Nat.not_lt_zero _)
                | succ n122 ih122 =>
                  intro pp vl2 h1 h2 hrun hvl hm122
                  refine z_aload_n (pc := 122) gX 0 dX5_next_122 rfl rfl ?_
                  refine z_cOV (pc := 123) gX (zI_ok gX hAX) [] [] [0, 1] (met_X5_look l D B0 q tx t pp 2 p vl2 ma bt tp (by first | assumption | omega) h2 (by first | assumption | omega) (by first | assumption | omega)) q503 q505 qs8 q65 q506 (zm 0 rfl) (ci := 5) rfl rfl hd_X5_look ⟨rfl, rfl⟩ ⟨(Nat.le_of_ble_eq_true rfl), (Nat.le_of_ble_eq_true rfl)⟩ rfl rfl rfl (Nat.le_of_ble_eq_true rfl) ⟨(Nat.le_of_ble_eq_true rfl), (Nat.le_of_ble_eq_true rfl)⟩ dX5_next_123 ?_
                  intro _ hu123
                  refine z_eq (lv₂ := [(0, .ref q), (1, .int (tp p))]) (st₂ := [.int (lkA tp t pp)]) ?_ rfl rfl
                  refine z_i2l (pc := 126) gX dX5_next_126 ?_
                  refine z_ldc2_w (pc := 127) gX q511 dX5_next_127 ?_
                  refine z_ldc2_w (pc := 130) gX q512 dX5_next_130 ?_
                  refine z_cOSN2 (pc := 133) gX (zI_ok gX hAX) [.long ((lkA tp t pp).toInt64), .long 48, .long 57] [] [] (met_X0_isIn l D B0 ((lkA tp t pp).toInt64) 48 57 ) (zm 11 rfl) q347 q47 hd_X0_isIn q348 ⟨rfl, rfl⟩ ⟨(Nat.le_of_ble_eq_true rfl), (Nat.le_of_ble_eq_true rfl)⟩ rfl rfl rfl (Nat.le_of_ble_eq_true rfl) ⟨(Nat.le_of_ble_eq_true rfl), (Nat.le_of_ble_eq_true rfl)⟩ dX5_next_133 ?_
                  intro _ hu133
                  refine z_eq (lv₂ := [(0, .ref q), (1, .int (tp p))]) (st₂ := [.int (bI (lIn ((lkA tp t pp).toInt64) 48 57))]) ?_ rfl rfl
                  refine z_top (bI (mIn (lkA tp t pp) 48 57)) (congrArg bI (lIn_eq rfl (by decide) (by decide))) ?_
                  refine z_if_eq (pc := 136) gX 191 dX5_next_136 (by decide) (fun c136 => ?_) (fun c136 => ?_)
                  · skip
                    have k136 : (mIn (lkA tp t pp) 48 57) = false := bI_eq0 c136
                    have hD0 := dgN_0 (tp := tp) (t := t) (p := pp) k136
                    have hrun2 : pp - p = nxD tp t p := by omega
                    refine z_aload_n (pc := 191) gX 0 dX5_next_191 rfl rfl ?_
                    refine z_aload_n (pc := 192) gX 0 dX5_next_192 rfl rfl ?_
                    refine z_get (pc := 193) gX (zI_ok gX hAX) (zm 0 rfl) (ci := 5) (C := RX5) (T := TX5) (N := 7) rfl in_X5 2 (by decide) q474 (fun _ h => h) (v := .int (nI pp)) rfl dX5_next_193 ?_
                    refine z_aload_n (pc := 196) gX 0 dX5_next_196 rfl rfl ?_
                    refine z_get (pc := 197) gX (zI_ok gX hAX) (zm 0 rfl) (ci := 5) (C := RX5) (T := TX5) (N := 7) rfl in_X5 4 (by decide) q476 (fun _ h => h) (v := .int (nI p)) rfl dX5_next_197 ?_
                    refine z_isub (pc := 200) gX dX5_next_200 ?_
                    refine z_top (nI (pp - p)) (pk_sub (by omega)) ?_
                    refine z_iconst (pc := 201) gX 2 dX5_next_201 (by decide) ?_
                    refine z_icmp_le (pc := 202) gX 209 dX5_next_202 (by decide) (fun c202 => ?_) (fun c202 => ?_)
                    · skip
                      have k202 : pp - p ≤ 2 := (zn_le (a := pp - p) (b := 2) (by omega) (by omega)).mp c202
                      refine z_iconst (pc := 209) gX 2 dX5_next_209 (by decide) ?_
                      refine z_put (pc := 210) gX hAX 0 rfl (ci := 5) (C := RX5) (T := TX5) (N := 7) rfl in_X5 tyX5 tyX5_ok nmX5 3 (by decide) q475 (fun _ h => h) rfl (v := .int 2) rfl rfl (Nat.le_of_ble_eq_true rfl) [[(q, .inr (5, [.ref tx, .int (nI t), .int (nI pp), .int 2, .int (nI p), .int vl2, .ref ma]))], [(tx, .inl (D.1 101, 90, .inl bt))]] rfl dX5_next_210 ?_
                      exact z_vret gX hQX () trivial rfl (by simp only [nxP, nxT, nxV, if_pos hpt, show isDg (tp p) = true from k78, k60, if_true, Bool.false_eq_true, if_false, ← hrun2, show p + (pp - p) = pp by omega, hvl, if_neg (show ¬ 2 < pp - p by omega)]; simp only [show (pp - p = 1) = (pp = p + 1) from propext ⟨fun h => by omega, fun h => by omega⟩]) (by first | decide | omega) (by first | decide | omega) dX5_next_213
                    · skip
                      have k202 : 2 < pp - p := (zn_nle (a := pp - p) (b := 2) (by omega) (by omega)).mp c202
                      refine z_iconst (pc := 205) gX 4 dX5_next_205 (by decide) ?_
                      refine z_goto (pc := 206) gX 210 dX5_next_206 (by decide) ?_
                      refine z_put (pc := 210) gX hAX 0 rfl (ci := 5) (C := RX5) (T := TX5) (N := 7) rfl in_X5 tyX5 tyX5_ok nmX5 3 (by decide) q475 (fun _ h => h) rfl (v := .int 4) rfl rfl (Nat.le_of_ble_eq_true rfl) [[(q, .inr (5, [.ref tx, .int (nI t), .int (nI pp), .int 4, .int (nI p), .int vl2, .ref ma]))], [(tx, .inl (D.1 101, 90, .inl bt))]] rfl dX5_next_210 ?_
                      exact z_vret gX hQX () trivial rfl (by simp only [nxP, nxT, nxV, if_pos hpt, show isDg (tp p) = true from k78, k60, if_true, Bool.false_eq_true, if_false, ← hrun2, show p + (pp - p) = pp by omega, hvl, if_pos (show 2 < pp - p by omega)]; simp only [show (pp - p = 1) = (pp = p + 1) from propext ⟨fun h => by omega, fun h => by omega⟩]) (by first | decide | omega) (by first | decide | omega) dX5_next_213
                  · skip
                    have k136 : (mIn (lkA tp t pp) 48 57) = true := bI_ne0 c136
                    have hdd : isDg (lkA tp t pp) = true := k136
                    have hDt := dgN_s hdd
                    have hlt := dg_lt hdd
                    refine z_aload_n (pc := 139) gX 0 dX5_next_139 rfl rfl ?_
                    refine z_aload_n (pc := 140) gX 0 dX5_next_140 rfl rfl ?_
                    refine z_get (pc := 141) gX (zI_ok gX hAX) (zm 0 rfl) (ci := 5) (C := RX5) (T := TX5) (N := 7) rfl in_X5 2 (by decide) q474 (fun _ h => h) (v := .int (nI pp)) rfl dX5_next_141 ?_
                    refine z_aload_n (pc := 144) gX 0 dX5_next_144 rfl rfl ?_
                    refine z_get (pc := 145) gX (zI_ok gX hAX) (zm 0 rfl) (ci := 5) (C := RX5) (T := TX5) (N := 7) rfl in_X5 4 (by decide) q476 (fun _ h => h) (v := .int (nI p)) rfl dX5_next_145 ?_
                    refine z_iconst (pc := 148) gX 1 dX5_next_148 (by decide) ?_
                    refine z_iadd (pc := 149) gX dX5_next_149 ?_
                    refine z_top (nI (p + 1)) (nI_add p 1) ?_
                    refine z_icmp_ne (pc := 150) gX 171 dX5_next_150 (by decide) (fun c150 => ?_) (fun c150 => ?_)
                    · skip
                      have k150 : ¬ pp = p + 1 := fun h => c150 ((zn_eq (a := pp) (b := p + 1) (by omega) (by omega)).mpr h)
                      refine z_aload_n (pc := 171) gX 0 dX5_next_171 rfl rfl ?_
                      refine z_get (pc := 172) gX (zI_ok gX hAX) (zm 0 rfl) (ci := 5) (C := RX5) (T := TX5) (N := 7) rfl in_X5 5 (by decide) q477 (fun _ h => h) (v := .int vl2) rfl dX5_next_172 ?_
                      refine z_put (pc := 175) gX hAX 0 rfl (ci := 5) (C := RX5) (T := TX5) (N := 7) rfl in_X5 tyX5 tyX5_ok nmX5 5 (by decide) q477 (fun _ h => h) rfl (v := .int vl2) rfl rfl (Nat.le_of_ble_eq_true rfl) [[(q, .inr (5, [.ref tx, .int (nI t), .int (nI pp), .int 2, .int (nI p), .int vl2, .ref ma]))], [(tx, .inl (D.1 101, 90, .inl bt))]] rfl dX5_next_175 ?_
                      refine z_aload_n (pc := 178) gX 0 dX5_next_178 rfl rfl ?_
                      refine z_dup (pc := 179) gX dX5_next_179 rfl ?_
                      refine z_get (pc := 180) gX (zI_ok gX hAX) (zm 0 rfl) (ci := 5) (C := RX5) (T := TX5) (N := 7) rfl in_X5 2 (by decide) q474 (fun _ h => h) (v := .int (nI pp)) rfl dX5_next_180 ?_
                      refine z_iconst (pc := 183) gX 1 dX5_next_183 (by decide) ?_
                      refine z_iadd (pc := 184) gX dX5_next_184 ?_
                      refine z_top (nI (pp + 1)) (nI_add pp 1) ?_
                      refine z_put (pc := 185) gX hAX 0 rfl (ci := 5) (C := RX5) (T := TX5) (N := 7) rfl in_X5 tyX5 tyX5_ok nmX5 2 (by decide) q474 (fun _ h => h) rfl (v := .int (nI (pp + 1))) rfl rfl (Nat.le_of_ble_eq_true rfl) [[(q, .inr (5, [.ref tx, .int (nI t), .int (nI (pp + 1)), .int 2, .int (nI p), .int vl2, .ref ma]))], [(tx, .inl (D.1 101, 90, .inl bt))]] rfl dX5_next_185 ?_
                      refine z_goto (pc := 188) gX 122 dX5_next_188 (by decide) ?_
                      exact ih122 (pp + 1) vl2 (by omega) (by omega) (by omega) (by rw [hvl, if_neg k150, if_neg (by omega)]) (by omega)
                    · skip
                      have k150 : pp = p + 1 := (zn_eq (a := pp) (b := p + 1) (by omega) (by omega)).mp c150
                      refine z_bipush (pc := 153) gX 10 dX5_next_153 (by decide) ?_
                      refine z_aload_n (pc := 155) gX 0 dX5_next_155 rfl rfl ?_
                      refine z_get (pc := 156) gX (zI_ok gX hAX) (zm 0 rfl) (ci := 5) (C := RX5) (T := TX5) (N := 7) rfl in_X5 5 (by decide) q477 (fun _ h => h) (v := .int vl2) rfl dX5_next_156 ?_
                      refine z_imul (pc := 159) gX dX5_next_159 ?_
                      refine z_aload_n (pc := 160) gX 0 dX5_next_160 rfl rfl ?_
                      refine z_cOV (pc := 161) gX (zI_ok gX hAX) [] [.int (10 * vl2), .ref q] [0, 1] (met_X5_look l D B0 q tx t pp 2 p vl2 ma bt tp (by first | assumption | omega) h2 (by first | assumption | omega) (by first | assumption | omega)) q503 q505 qs8 q65 q506 (zm 0 rfl) (ci := 5) rfl rfl hd_X5_look ⟨rfl, rfl⟩ ⟨(Nat.le_of_ble_eq_true rfl), (Nat.le_of_ble_eq_true rfl)⟩ rfl rfl rfl (Nat.le_of_ble_eq_true rfl) ⟨(Nat.le_of_ble_eq_true rfl), (Nat.le_of_ble_eq_true rfl)⟩ dX5_next_161 ?_
                      intro _ hu161
                      refine z_eq (lv₂ := [(0, .ref q), (1, .int (tp p))]) (st₂ := [.int (lkA tp t pp), .int (10 * vl2), .ref q]) ?_ rfl rfl
                      refine z_top (tp pp) (by rw [lkA, if_pos (dg_lt k136)]) ?_
                      refine z_iadd (pc := 164) gX dX5_next_164 ?_
                      refine z_bipush (pc := 165) gX 48 dX5_next_165 (by decide) ?_
                      refine z_isub (pc := 167) gX dX5_next_167 ?_
                      refine z_goto (pc := 168) gX 175 dX5_next_168 (by decide) ?_
                      refine z_put (pc := 175) gX hAX 0 rfl (ci := 5) (C := RX5) (T := TX5) (N := 7) rfl in_X5 tyX5 tyX5_ok nmX5 5 (by decide) q477 (fun _ h => h) rfl (v := .int (((10 * vl2) + (tp pp)) - 48)) rfl rfl (Nat.le_of_ble_eq_true rfl) [[(q, .inr (5, [.ref tx, .int (nI t), .int (nI pp), .int 2, .int (nI p), .int (((10 * vl2) + (tp pp)) - 48), .ref ma]))], [(tx, .inl (D.1 101, 90, .inl bt))]] rfl dX5_next_175 ?_
                      refine z_aload_n (pc := 178) gX 0 dX5_next_178 rfl rfl ?_
                      refine z_dup (pc := 179) gX dX5_next_179 rfl ?_
                      refine z_get (pc := 180) gX (zI_ok gX hAX) (zm 0 rfl) (ci := 5) (C := RX5) (T := TX5) (N := 7) rfl in_X5 2 (by decide) q474 (fun _ h => h) (v := .int (nI pp)) rfl dX5_next_180 ?_
                      refine z_iconst (pc := 183) gX 1 dX5_next_183 (by decide) ?_
                      refine z_iadd (pc := 184) gX dX5_next_184 ?_
                      refine z_top (nI (pp + 1)) (nI_add pp 1) ?_
                      refine z_put (pc := 185) gX hAX 0 rfl (ci := 5) (C := RX5) (T := TX5) (N := 7) rfl in_X5 tyX5 tyX5_ok nmX5 2 (by decide) q474 (fun _ h => h) rfl (v := .int (nI (pp + 1))) rfl rfl (Nat.le_of_ble_eq_true rfl) [[(q, .inr (5, [.ref tx, .int (nI t), .int (nI (pp + 1)), .int 2, .int (nI p), .int (((10 * vl2) + (tp pp)) - 48), .ref ma]))], [(tx, .inl (D.1 101, 90, .inl bt))]] rfl dX5_next_185 ?_
                      refine z_goto (pc := 188) gX 122 dX5_next_188 (by decide) ?_
                      exact ih122 (pp + 1) (((10 * vl2) + (tp pp)) - 48) (by omega) (by omega) (by omega) (by rw [if_neg (by omega), hvl, if_pos k150, k150]) (by omega)
              exact L122 ((90 - (p + 1)) + 1) (p + 1) ((tp p) - 48) (by omega) (by omega) (by omega) (by rw [if_pos rfl]) (Nat.lt_succ_self _)
            · skip
              have k110 : ¬ 2 = 2 := fun h => c110 ((zn_eq (a := 2) (b := 2) (by omega) (by omega)).mpr h)
              exact absurd c110 (by decide)
        · skip
          have k60 : (mIn (tp p) 97 122) = true := bI_ne0 c60
          refine z_iconst (pc := 63) gX 1 dX5_next_63 (by decide) ?_
          refine z_goto (pc := 64) gX 102 dX5_next_64 (by decide) ?_
          refine z_put (pc := 102) gX hAX 0 rfl (ci := 5) (C := RX5) (T := TX5) (N := 7) rfl in_X5 tyX5 tyX5_ok nmX5 3 (by decide) q475 (fun _ h => h) rfl (v := .int 1) rfl rfl (Nat.le_of_ble_eq_true rfl) [[(q, .inr (5, [.ref tx, .int (nI t), .int (nI (p + 1)), .int 1, .int (nI p), .int (tp p), .ref ma]))], [(tx, .inl (D.1 101, 90, .inl bt))]] rfl dX5_next_102 ?_
          refine z_aload_n (pc := 105) gX 0 dX5_next_105 rfl rfl ?_
          refine z_get (pc := 106) gX (zI_ok gX hAX) (zm 0 rfl) (ci := 5) (C := RX5) (T := TX5) (N := 7) rfl in_X5 3 (by decide) q475 (fun _ h => h) (v := .int 1) rfl dX5_next_106 ?_
          refine z_iconst (pc := 109) gX 2 dX5_next_109 (by decide) ?_
          refine z_icmp_eq (pc := 110) gX 114 dX5_next_110 (by decide) (fun c110 => ?_) (fun c110 => ?_)
          · skip
            have k110 : 1 = 2 := (zn_eq (a := 1) (b := 2) (by omega) (by omega)).mp c110
            exact absurd c110 (by decide)
          · skip
            have k110 : ¬ 1 = 2 := fun h => c110 ((zn_eq (a := 1) (b := 2) (by omega) (by omega)).mpr h)
            exact z_vret gX hQX () trivial rfl (by simp only [nxP, nxT, nxV, if_pos hpt, k60, let_dg k60, if_true, Bool.false_eq_true, if_false]) (by first | decide | omega) (by first | decide | omega) dX5_next_113
      · skip
        exact absurd (hr p hpt) (by rw [c42]; decide)
    · skip
      exact absurd (hr p hpt) (by rw [c26]; decide)
  · skip
    refine z_aload_n (pc := 0) gX 0 dX5_next_0 rfl rfl ?_
    refine z_aload_n (pc := 1) gX 0 dX5_next_1 rfl rfl ?_
    refine z_get (pc := 2) gX (zI_ok gX hAX) (zm 0 rfl) (ci := 5) (C := RX5) (T := TX5) (N := 7) rfl in_X5 2 (by decide) q474 (fun _ h => h) (v := .int (nI p)) rfl dX5_next_2 ?_
    refine z_put (pc := 5) gX hAX 0 rfl (ci := 5) (C := RX5) (T := TX5) (N := 7) rfl in_X5 tyX5 tyX5_ok nmX5 4 (by decide) q476 (fun _ h => h) rfl (v := .int (nI p)) rfl rfl (Nat.le_of_ble_eq_true rfl) [[(q, .inr (5, [.ref tx, .int (nI t), .int (nI p), .int tk, .int (nI p), .int vl, .ref ma]))], [(tx, .inl (D.1 101, 90, .inl bt))]] rfl dX5_next_5 ?_
    refine z_aload_n (pc := 8) gX 0 dX5_next_8 rfl rfl ?_
    refine z_cOV (pc := 9) gX (zI_ok gX hAX) [] [] [0, 1] (met_X5_look l D B0 q tx t p tk p vl ma bt tp (by first | assumption | omega) (by first | assumption | omega) (by first | assumption | omega) (by first | assumption | omega)) q503 q505 qs8 q65 q506 (zm 0 rfl) (ci := 5) rfl rfl hd_X5_look ⟨rfl, rfl⟩ ⟨(Nat.le_of_ble_eq_true rfl), (Nat.le_of_ble_eq_true rfl)⟩ rfl rfl rfl (Nat.le_of_ble_eq_true rfl) ⟨(Nat.le_of_ble_eq_true rfl), (Nat.le_of_ble_eq_true rfl)⟩ dX5_next_9 ?_
    intro _ hu9
    refine z_eq (lv₂ := [(0, .ref q)]) (st₂ := [.int (lkA tp t p)]) ?_ rfl rfl
    refine z_top (-1000000) (by rw [lkA, if_neg hpt]) ?_
    refine z_istore_n (pc := 12) gX [1, 0] [(0, .ref q), (1, .int (-1000000))] dX5_next_12 rfl (by decide) rfl ?_
    refine z_aload_n (pc := 13) gX 0 dX5_next_13 rfl rfl ?_
    refine z_iload_n (pc := 14) gX 1 dX5_next_14 rfl rfl ?_
    refine z_put (pc := 15) gX hAX 0 rfl (ci := 5) (C := RX5) (T := TX5) (N := 7) rfl in_X5 tyX5 tyX5_ok nmX5 5 (by decide) q477 (fun _ h => h) rfl (v := .int (-1000000)) rfl rfl (Nat.le_of_ble_eq_true rfl) [[(q, .inr (5, [.ref tx, .int (nI t), .int (nI p), .int tk, .int (nI p), .int (-1000000), .ref ma]))], [(tx, .inl (D.1 101, 90, .inl bt))]] rfl dX5_next_15 ?_
    refine z_aload_n (pc := 18) gX 0 dX5_next_18 rfl rfl ?_
    refine z_dup (pc := 19) gX dX5_next_19 rfl ?_
    refine z_get (pc := 20) gX (zI_ok gX hAX) (zm 0 rfl) (ci := 5) (C := RX5) (T := TX5) (N := 7) rfl in_X5 2 (by decide) q474 (fun _ h => h) (v := .int (nI p)) rfl dX5_next_20 ?_
    refine z_iload_n (pc := 23) gX 1 dX5_next_23 rfl rfl ?_
    refine z_ldc (pc := 24) gX q507 dX5_next_24 ?_
    refine z_icmp_ne (pc := 26) gX 33 dX5_next_26 (by decide) (fun c26 => ?_) (fun c26 => ?_)
    · skip
      exact absurd c26 (by decide)
    · skip
      refine z_iconst (pc := 29) gX 0 dX5_next_29 (by decide) ?_
      refine z_goto (pc := 30) gX 34 dX5_next_30 (by decide) ?_
      refine z_iadd (pc := 34) gX dX5_next_34 ?_
      refine z_top (nI p) (nI_add p 0) ?_
      refine z_put (pc := 35) gX hAX 0 rfl (ci := 5) (C := RX5) (T := TX5) (N := 7) rfl in_X5 tyX5 tyX5_ok nmX5 2 (by decide) q474 (fun _ h => h) rfl (v := .int (nI p)) rfl rfl (Nat.le_of_ble_eq_true rfl) [[(q, .inr (5, [.ref tx, .int (nI t), .int (nI p), .int tk, .int (nI p), .int (-1000000), .ref ma]))], [(tx, .inl (D.1 101, 90, .inl bt))]] rfl dX5_next_35 ?_
      refine z_aload_n (pc := 38) gX 0 dX5_next_38 rfl rfl ?_
      refine z_iload_n (pc := 39) gX 1 dX5_next_39 rfl rfl ?_
      refine z_ldc (pc := 40) gX q507 dX5_next_40 ?_
      refine z_icmp_ne (pc := 42) gX 49 dX5_next_42 (by decide) (fun c42 => ?_) (fun c42 => ?_)
      · skip
        exact absurd c42 (by decide)
      · skip
        refine z_iconst (pc := 45) gX 0 dX5_next_45 (by decide) ?_
        refine z_goto (pc := 46) gX 102 dX5_next_46 (by decide) ?_
        refine z_put (pc := 102) gX hAX 0 rfl (ci := 5) (C := RX5) (T := TX5) (N := 7) rfl in_X5 tyX5 tyX5_ok nmX5 3 (by decide) q475 (fun _ h => h) rfl (v := .int 0) rfl rfl (Nat.le_of_ble_eq_true rfl) [[(q, .inr (5, [.ref tx, .int (nI t), .int (nI p), .int 0, .int (nI p), .int (-1000000), .ref ma]))], [(tx, .inl (D.1 101, 90, .inl bt))]] rfl dX5_next_102 ?_
        refine z_aload_n (pc := 105) gX 0 dX5_next_105 rfl rfl ?_
        refine z_get (pc := 106) gX (zI_ok gX hAX) (zm 0 rfl) (ci := 5) (C := RX5) (T := TX5) (N := 7) rfl in_X5 3 (by decide) q475 (fun _ h => h) (v := .int 0) rfl dX5_next_106 ?_
        refine z_iconst (pc := 109) gX 2 dX5_next_109 (by decide) ?_
        refine z_icmp_eq (pc := 110) gX 114 dX5_next_110 (by decide) (fun c110 => ?_) (fun c110 => ?_)
        · skip
          have k110 : 0 = 2 := (zn_eq (a := 0) (b := 2) (by omega) (by omega)).mp c110
          exact absurd c110 (by decide)
        · skip
          have k110 : ¬ 0 = 2 := fun h => c110 ((zn_eq (a := 0) (b := 2) (by omega) (by omega)).mpr h)
          exact z_vret gX hQX () trivial rfl (by simp only [nxP, nxT, nxV, if_neg hpt]) (by first | decide | omega) (by first | decide | omega) dX5_next_113
theorem hd_X5_next : zHd yX5_next 0 := by unfold zHd; decide +kernel

