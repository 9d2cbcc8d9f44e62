set_option maxRecDepth 100000
/-! THE REFERENCE: a text read whole -/
def mStair (tp : Nat → Int32) (t : Nat) (x c : Nat → Int32) (r : Int32) (x1 c1 : Nat → Int32) : Prop := match pAll tp t (fun _ => 0) with
  | .inl e => r = -1000100 - nI e.2 ∧ c1 = c ∧ ∀ j, j < 5 → x1 j = upd (upd x 1 0) 2 (nI e.1) j
  | .inr s => r = s.2 17 ∧ c1 = s.2 ∧ ∀ j, j < 5 → x1 j = upd (upd x 1 0) 3 0 j
theorem mStair_f {tp : Nat → Int32} {t : Nat} {x c x1 c1 : Nat → Int32} {r : Int32} {e a : Nat} (h : pAll tp t (fun _ => 0) = .inl (e, a)) (h1 : r = -1000100 - nI a) (h2 : c1 = c) (h3 : ∀ j, j < 5 → x1 j = upd (upd x 1 0) 2 (nI e) j) : mStair tp t x c r x1 c1 := by
  unfold mStair; rw [h]; exact ⟨h1, h2, h3⟩
theorem mStair_t {tp : Nat → Int32} {t : Nat} {x c x1 c1 : Nat → Int32} {r : Int32} {s : PS} (h : pAll tp t (fun _ => 0) = .inr s) (h1 : r = s.2 17) (h2 : c1 = s.2) (h3 : ∀ j, j < 5 → x1 j = upd (upd x 1 0) 3 0 j) : mStair tp t x c r x1 c1 := by
  unfold mStair; rw [h]; exact ⟨h1, h2, h3⟩
theorem rdP_cases {tp : Nat → Int32} {t : Nat} {x d x1 d1 : Nat → Int32} {b : Bool} (h : rdP tp t x d b x1 d1) : (b = false ∧ ∃ e a, pAll tp t d = .inl (e, a) ∧ x1 = upd (upd x 5 (nI a)) 6 (nI e)) ∨ (b = true ∧ ∃ a, pAll tp t d = .inr (a, d1) ∧ x1 = upd x 5 (nI a)) := by
  unfold rdP at h
  cases hp : pAll tp t d with
  | inl e => rw [hp] at h; exact Or.inl ⟨h.1, e.1, e.2, rfl, h.2⟩
  | inr s =>
    rw [hp] at h
    obtain ⟨a, d2⟩ := s
    obtain ⟨h1, h2, h3⟩ := h
    have h3 : d1 = d2 := h3
    subst h3
    exact Or.inr ⟨h1, a, rfl, h2⟩

set_option maxHeartbeats 4000000 in
theorem met_X4_reads (l : Launch) (D : va_G) (B0 : Nat) (A : Nat → Prop) (o : Nat) (ad : Nat → Nat) (x : Nat → Int32) (tp : Nat → Int32) (t : Nat) (d : Nat → Int32) (hty : x 1 = nI t) (ht90 : t ≤ 90) (hd17 : d 17 = 0) : Met l yX4_reads (ws_ yX4_reads cX4_reads 3 (some .boolean)) (zRm 4 0 0) (va_Pc [.ref o] (zPre B0 D A [mOb o ad x, [(ad 4, .inl (D.1 100, 90, .inl tp))], [(ad 6, .inl (D.1 100, 25, .inl d))]])) (zQ (S := Bool × (Nat → Int32) × (Nat → Int32)) (fun u => (fun (b : Bool) (x1 : Nat → Int32) (d1 : Nat → Int32) => rdP tp t x d b x1 d1) u.1 u.2.1 u.2.2) (fun u => (fun (b : Bool) (x1 : Nat → Int32) (d1 : Nat → Int32) => some (.int (bI b))) u.1 u.2.1 u.2.2) (fun u => (fun (b : Bool) (x1 : Nat → Int32) (d1 : Nat → Int32) => [mOb o ad x1, [(ad 4, .inl (D.1 100, 90, .inl tp))], [(ad 6, .inl (D.1 100, 25, .inl d1))]]) u.1 u.2.1 u.2.2) D A) 0 0 A := by
  refine z_entry (by decide +kernel) (Nat.le_of_ble_eq_true rfl) (fun pX eX sX mX argsX blX mtX cX QX hQX gX hAX hnm => ?_)
  refine z_eq (lv₂ := [(0, .ref o)]) (st₂ := []) ?_ rfl rfl
  refine z_aload_n (pc := 0) gX 0 dX4_reads_0 rfl rfl ?_
  refine z_iconst (pc := 1) gX 0 dX4_reads_1 (by decide) ?_
  refine z_put (pc := 2) gX hAX 0 rfl (ci := 4) (C := RX4) (T := TX4) (N := 20) rfl in_X4 tyX4 tyX4_ok nmX4 18 (by decide) q1401 (fun _ h => h) rfl (v := .int 0) rfl rfl (Nat.le_of_ble_eq_true rfl) [mOb o ad (upd x 5 0), [(ad 4, .inl (D.1 100, 90, .inl tp))], [(ad 6, .inl (D.1 100, 25, .inl d))]] rfl dX4_reads_2 ?_
  refine z_aload_n (pc := 5) gX 0 dX4_reads_5 rfl rfl ?_
  refine z_bipush (pc := 6) gX 109 dX4_reads_6 (by decide) ?_
  refine z_cMV (pc := 8) gX hAX [.int 109] [] [0, 1] [2] (fun A1 => met_X4_sign l D B0 A1 o ad (upd x 5 0) tp t 0 109 (by rw [pk_un (by decide)]; exact hty) (by first | assumption | omega) pk_us (by omega)) q1497 q1499 qs31 q54 q1500 (zm 0 rfl) (ci := 4) rfl rfl hd_X4_sign ⟨rfl, rfl⟩ ⟨(Nat.le_of_ble_eq_true rfl), (Nat.le_of_ble_eq_true rfl)⟩ rfl rfl rfl rfl rfl (Nat.le_of_ble_eq_true rfl) ⟨(Nat.le_of_ble_eq_true rfl), (Nat.le_of_ble_eq_true rfl)⟩ dX4_reads_8 ?_
  intro u8 hu8
  obtain ⟨b_8, x1_8⟩ := u8
  have hu8 : (b_8, x1_8) = mSign tp t 0 (upd x 5 0) 109 := hu8
  refine z_re [0, 1, 2] [mOb o ad x1_8, [(ad 4, .inl (D.1 100, 90, .inl tp))], [(ad 6, .inl (D.1 100, 25, .inl d))]] rfl rfl ?_
  refine z_eq (lv₂ := [(0, .ref o)]) (st₂ := [.int (bI b_8)]) ?_ rfl rfl
  refine z_if_eq (pc := 11) gX 54 dX4_reads_11 (by decide) (fun c11 => ?_) (fun c11 => ?_)
  · skip
    have k11 : b_8 = false := bI_eq0 c11
    obtain ⟨hs8, ex8⟩ := mSign_f hu8 k11
    subst ex8
    refine z_iconst (pc := 54) gX 0 dX4_reads_54 (by decide) ?_
    exact z_rzm gX hQX (false, upd (upd x 5 0) 6 1, d) (rdP_f (by simp only [pAll, sB, hs8]) rfl) (⟨rfl, rfl⟩) rfl (by first | decide | omega) (by first | decide | omega) dX4_reads_55
  · skip
    have k11 : b_8 = true := bI_ne0 c11
    obtain ⟨hs8, ex8, hl8⟩ := mSign_t hu8 k11 (by decide)
    rw [upd_upd] at ex8
    subst ex8
    refine z_aload_n (pc := 14) gX 0 dX4_reads_14 rfl rfl ?_
    refine z_bipush (pc := 15) gX 16 dX4_reads_15 (by decide) ?_
    refine z_iconst (pc := 17) gX 4 dX4_reads_17 (by decide) ?_
    refine z_bipush (pc := 18) gX 12 dX4_reads_18 (by decide) ?_
    refine z_cMV (pc := 20) gX hAX [.int 16, .int 4, .int 12] [] [0, 1, 2] [] (fun A1 => met_X4_number l D B0 A1 o ad (upd x 5 (nI (0 + 1))) tp t (0 + 1) d 16 4 12 (by rw [pk_un (by decide)]; exact hty) (by first | assumption | omega) pk_us (by omega) (by first | assumption | omega)) q1509 q1511 qs34 q54 q1512 (zm 0 rfl) (ci := 4) rfl rfl hd_X4_number ⟨rfl, rfl⟩ ⟨(Nat.le_of_ble_eq_true rfl), (Nat.le_of_ble_eq_true rfl)⟩ rfl rfl rfl rfl rfl (Nat.le_of_ble_eq_true rfl) ⟨(Nat.le_of_ble_eq_true rfl), (Nat.le_of_ble_eq_true rfl)⟩ dX4_reads_20 ?_
    intro u20 hu20
    obtain ⟨b_20, x1_20, d1_20⟩ := u20
    have hu20 : (b_20, x1_20, d1_20) = mNumb tp t (0 + 1) (upd x 5 (nI (0 + 1))) d 16 4 12 := hu20
    refine z_re [0, 1, 2] [mOb o ad x1_20, [(ad 4, .inl (D.1 100, 90, .inl tp))], [(ad 6, .inl (D.1 100, 25, .inl d1_20))]] rfl rfl ?_
    refine z_eq (lv₂ := [(0, .ref o)]) (st₂ := [.int (bI b_20)]) ?_ rfl rfl
    refine z_if_eq (pc := 23) gX 54 dX4_reads_23 (by decide) (fun c23 => ?_) (fun c23 => ?_)
    · skip
      have k23 : b_20 = false := bI_eq0 c23
      obtain ⟨e20, hn20, ex20⟩ := mNumb_f hu20 k23
      subst ex20
      refine z_iconst (pc := 54) gX 0 dX4_reads_54 (by decide) ?_
      exact z_rzm gX hQX (false, upd (upd x 5 (nI (0 + 1))) 6 (nI e20), d1_20) (rdP_f (by simp only [pAll, sB, hs8, hn20]) rfl) (⟨rfl, rfl⟩) rfl (by first | decide | omega) (by first | decide | omega) dX4_reads_55
    · skip
      have k23 : b_20 = true := bI_ne0 c23
      obtain ⟨a20, v20, hn20, ex20, ed20, hl20, hm20_⟩ := mNumb_t hu20 k23
      rw [upd_upd] at ex20
      subst ex20
      subst ed20
      refine z_aload_n (pc := 26) gX 0 dX4_reads_26 rfl rfl ?_
      refine z_bipush (pc := 27) gX 44 dX4_reads_27 (by decide) ?_
      refine z_cMV (pc := 29) gX hAX [.int 44] [] [0, 1] [2] (fun A1 => met_X4_sign l D B0 A1 o ad (upd x 5 (nI a20)) tp t a20 44 (by rw [pk_un (by decide)]; exact hty) (by first | assumption | omega) pk_us (by omega)) q1497 q1499 qs31 q54 q1500 (zm 0 rfl) (ci := 4) rfl rfl hd_X4_sign ⟨rfl, rfl⟩ ⟨(Nat.le_of_ble_eq_true rfl), (Nat.le_of_ble_eq_true rfl)⟩ rfl rfl rfl rfl rfl (Nat.le_of_ble_eq_true rfl) ⟨(Nat.le_of_ble_eq_true rfl), (Nat.le_of_ble_eq_true rfl)⟩ dX4_reads_29 ?_
      intro u29 hu29
      obtain ⟨b_29, x1_29⟩ := u29
      have hu29 : (b_29, x1_29) = mSign tp t a20 (upd x 5 (nI a20)) 44 := hu29
      refine z_re [0, 1, 2] [mOb o ad x1_29, [(ad 4, .inl (D.1 100, 90, .inl tp))], [(ad 6, .inl (D.1 100, 25, .inl (upd d 16 v20)))]] rfl rfl ?_
      refine z_eq (lv₂ := [(0, .ref o)]) (st₂ := [.int (bI b_29)]) ?_ rfl rfl
      refine z_if_eq (pc := 32) gX 54 dX4_reads_32 (by decide) (fun c32 => ?_) (fun c32 => ?_)
      · skip
        have k32 : b_29 = false := bI_eq0 c32
        obtain ⟨hs29, ex29⟩ := mSign_f hu29 k32
        subst ex29
        refine z_iconst (pc := 54) gX 0 dX4_reads_54 (by decide) ?_
        exact z_rzm gX hQX (false, upd (upd x 5 (nI a20)) 6 1, upd d 16 v20) (rdP_f (by simp only [pAll, sB, hs8, hn20, hs29]) rfl) (⟨rfl, rfl⟩) rfl (by first | decide | omega) (by first | decide | omega) dX4_reads_55
      · skip
        have k32 : b_29 = true := bI_ne0 c32
        obtain ⟨hs29, ex29, hl29⟩ := mSign_t hu29 k32 (by decide)
        rw [upd_upd] at ex29
        subst ex29
        refine z_aload_n (pc := 35) gX 0 dX4_reads_35 rfl rfl ?_
        refine z_iconst (pc := 36) gX 1 dX4_reads_36 (by decide) ?_
        refine z_iconst (pc := 37) gX 0 dX4_reads_37 (by decide) ?_
        refine z_iconst (pc := 38) gX 2 dX4_reads_38 (by decide) ?_
        refine z_cMV (pc := 39) gX hAX [.int 1, .int 0, .int 2] [] [0, 1, 2] [] (fun A1 => met_X4_number l D B0 A1 o ad (upd x 5 (nI (a20 + 1))) tp t (a20 + 1) (upd d 16 v20) 1 0 2 (by rw [pk_un (by decide)]; exact hty) (by first | assumption | omega) pk_us (by omega) (by first | assumption | omega)) q1509 q1511 qs34 q54 q1512 (zm 0 rfl) (ci := 4) rfl rfl hd_X4_number ⟨rfl, rfl⟩ ⟨(Nat.le_of_ble_eq_true rfl), (Nat.le_of_ble_eq_true rfl)⟩ rfl rfl rfl rfl rfl (Nat.le_of_ble_eq_true rfl) ⟨(Nat.le_of_ble_eq_true rfl), (Nat.le_of_ble_eq_true rfl)⟩ dX4_reads_39 ?_
        intro u39 hu39
        obtain ⟨b_39, x1_39, d1_39⟩ := u39
        have hu39 : (b_39, x1_39, d1_39) = mNumb tp t (a20 + 1) (upd x 5 (nI (a20 + 1))) (upd d 16 v20) 1 0 2 := hu39
        refine z_re [0, 1, 2] [mOb o ad x1_39, [(ad 4, .inl (D.1 100, 90, .inl tp))], [(ad 6, .inl (D.1 100, 25, .inl d1_39))]] rfl rfl ?_
        refine z_eq (lv₂ := [(0, .ref o)]) (st₂ := [.int (bI b_39)]) ?_ rfl rfl
        refine z_if_eq (pc := 42) gX 54 dX4_reads_42 (by decide) (fun c42 => ?_) (fun c42 => ?_)
        · skip
          have k42 : b_39 = false := bI_eq0 c42
          obtain ⟨e39, hn39, ex39⟩ := mNumb_f hu39 k42
          subst ex39
          refine z_iconst (pc := 54) gX 0 dX4_reads_54 (by decide) ?_
          exact z_rzm gX hQX (false, upd (upd x 5 (nI (a20 + 1))) 6 (nI e39), d1_39) (rdP_f (by simp only [pAll, sB, hs8, hn20, hs29, hn39]) rfl) (⟨rfl, rfl⟩) rfl (by first | decide | omega) (by first | decide | omega) dX4_reads_55
        · skip
          have k42 : b_39 = true := bI_ne0 c42
          obtain ⟨a39, v39, hn39, ex39, ed39, hl39, hm39_⟩ := mNumb_t hu39 k42
          rw [upd_upd] at ex39
          subst ex39
          subst ed39
          refine z_aload_n (pc := 45) gX 0 dX4_reads_45 rfl rfl ?_
          refine z_bipush (pc := 46) gX 59 dX4_reads_46 (by decide) ?_
          refine z_cMV (pc := 48) gX hAX [.int 59] [] [0, 1] [2] (fun A1 => met_X4_sign l D B0 A1 o ad (upd x 5 (nI a39)) tp t a39 59 (by rw [pk_un (by decide)]; exact hty) (by first | assumption | omega) pk_us (by omega)) q1497 q1499 qs31 q54 q1500 (zm 0 rfl) (ci := 4) rfl rfl hd_X4_sign ⟨rfl, rfl⟩ ⟨(Nat.le_of_ble_eq_true rfl), (Nat.le_of_ble_eq_true rfl)⟩ rfl rfl rfl rfl rfl (Nat.le_of_ble_eq_true rfl) ⟨(Nat.le_of_ble_eq_true rfl), (Nat.le_of_ble_eq_true rfl)⟩ dX4_reads_48 ?_
          intro u48 hu48
          obtain ⟨b_48, x1_48⟩ := u48
          have hu48 : (b_48, x1_48) = mSign tp t a39 (upd x 5 (nI a39)) 59 := hu48
          refine z_re [0, 1, 2] [mOb o ad x1_48, [(ad 4, .inl (D.1 100, 90, .inl tp))], [(ad 6, .inl (D.1 100, 25, .inl (upd (upd d 16 v20) 1 v39)))]] rfl rfl ?_
          refine z_eq (lv₂ := [(0, .ref o)]) (st₂ := [.int (bI b_48)]) ?_ rfl rfl
          refine z_if_ne (pc := 51) gX 56 dX4_reads_51 (by decide) (fun c51 => ?_) (fun c51 => ?_)
          · skip
            have k51 : b_48 = true := bI_ne0 c51
            obtain ⟨hs48, ex48, hl48⟩ := mSign_t hu48 k51 (by decide)
            rw [upd_upd] at ex48
            subst ex48
            have L56 : ∀ (n56 : Nat) (al : Nat) (m : Nat) (dl : Nat → Int32), (m ≤ 7) → (al ≤ t) → (dl 17 = nI m) → (pLoop tp t (8 - m) m (al, dl) = pAll tp t d) → 8 - m < n56 → zJ pX l eX (zRm 4 0 0) sX mX argsX blX mtX cX QX 3 (zI D A sX [mOb o ad (upd x 5 (nI al)), [(ad 4, .inl (D.1 100, 90, .inl tp))], [(ad 6, .inl (D.1 100, 25, .inl dl))]]) 0 0 56 [(0, .ref o)] [] := by
              intro n56
              induction n56 with
              | zero => exact fun al m dl hm7 hal hdm hrem hm56 => absurd hm56 (Nat.not_lt_zero _)
              | succ n56 ih56 =>
                intro al m dl hm7 hal hdm hrem hm56
                refine z_aload_n (pc := 56) gX 0 dX4_reads_56 rfl rfl ?_
                refine z_get (pc := 57) gX (zI_ok gX hAX) (zm 0 rfl) (ci := 4) (C := RX4) (T := TX4) (N := 20) rfl in_X4 18 (by decide) q1401 (fun _ h => h) (v := .int ((upd x 5 (nI al)) 5)) rfl dX4_reads_57 ?_
                refine z_top (nI al) pk_us ?_
                refine z_aload_n (pc := 60) gX 0 dX4_reads_60 rfl rfl ?_
                refine z_get (pc := 61) gX (zI_ok gX hAX) (zm 0 rfl) (ci := 4) (C := RX4) (T := TX4) (N := 20) rfl in_X4 6 (by decide) q1389 (fun _ h => h) (v := .int ((upd x 5 (nI al)) 1)) rfl dX4_reads_61 ?_
                refine z_top (nI t) (by rw [pk_un (by decide)]; exact hty) ?_
                refine z_icmp_lt (pc := 64) gX 77 dX4_reads_64 (by decide) (fun c64 => ?_) (fun c64 => ?_)
                · skip
                  have k64 : al < t := (zn_lt (a := al) (b := t) (by omega) (by omega)).mp c64
                  have hgo : (al, dl).1 < t ∨ m = 0 := Or.inl k64
                  refine z_aload_n (pc := 77) gX 0 dX4_reads_77 rfl rfl ?_
                  refine z_aload_n (pc := 78) gX 0 dX4_reads_78 rfl rfl ?_
                  refine z_get (pc := 79) gX (zI_ok gX hAX) (zm 0 rfl) (ci := 4) (C := RX4) (T := TX4) (N := 20) rfl in_X4 18 (by decide) q1401 (fun _ h => h) (v := .int ((upd x 5 (nI al)) 5)) rfl dX4_reads_79 ?_
                  refine z_top (nI al) pk_us ?_
                  refine z_cOV (pc := 82) gX (zI_ok gX hAX) [.int (nI al)] [] [0, 1] (met_X4_letterAt l D B0 o ad (upd x 5 (nI al)) tp t al (by rw [pk_un (by decide)]; exact hty) (by first | assumption | omega) (by omega)) q1501 q1503 qs32 q54 q1504 (zm 0 rfl) (ci := 4) rfl rfl hd_X4_letterAt ⟨rfl, rfl⟩ ⟨(Nat.le_of_ble_eq_true rfl), (Nat.le_of_ble_eq_true rfl)⟩ rfl rfl rfl (Nat.le_of_ble_eq_true rfl) ⟨(Nat.le_of_ble_eq_true rfl), (Nat.le_of_ble_eq_true rfl)⟩ dX4_reads_82 ?_
                  intro _ hu82
                  refine z_eq (lv₂ := [(0, .ref o)]) (st₂ := [.int (ltA tp t al)]) ?_ rfl rfl
                  refine z_cOS (pc := 85) gX (zI_ok gX hAX) [.int (ltA tp t al)] [] [] (met_X4_kindBy l D B0 (ltA tp t al) ) q1516 q1517 q54 q1518 hd_X4_kindBy ⟨rfl, rfl⟩ ⟨(Nat.le_of_ble_eq_true rfl), (Nat.le_of_ble_eq_true rfl)⟩ rfl rfl rfl (Nat.le_of_ble_eq_true rfl) ⟨(Nat.le_of_ble_eq_true rfl), (Nat.le_of_ble_eq_true rfl)⟩ dX4_reads_85 ?_
                  intro _ hu85
                  refine z_eq (lv₂ := [(0, .ref o)]) (st₂ := [.int (mKindB (ltA tp t al))]) ?_ rfl rfl
                  refine z_istore_n (pc := 88) gX [1, 0] [(0, .ref o), (1, .int (mKindB (ltA tp t al)))] dX4_reads_88 rfl (by decide) rfl ?_
                  refine z_iload_n (pc := 89) gX 1 dX4_reads_89 rfl rfl ?_
                  refine z_if_ne (pc := 90) gX 99 dX4_reads_90 (by decide) (fun c90 => ?_) (fun c90 => ?_)
                  · skip
                    refine z_aload_n (pc := 99) gX 0 dX4_reads_99 rfl rfl ?_
                    refine z_get (pc := 100) gX (zI_ok gX hAX) (zm 0 rfl) (ci := 4) (C := RX4) (T := TX4) (N := 20) rfl in_X4 9 (by decide) q1392 (fun _ h => h) (v := .ref (ad 6)) rfl dX4_reads_100 ?_
                    refine z_bipush (pc := 103) gX 17 dX4_reads_103 (by decide) ?_
                    refine z_top (nI 17) rfl ?_
                    refine z_iald (pc := 105) gX (zI_ok gX hAX) (j := 17) (n := 25) (f := dl) (zm 2 rfl) (by omega) (by decide) dX4_reads_105 ?_
                    refine z_top (nI m) hdm ?_
                    refine z_istore_n (pc := 106) gX [1, 2, 0] [(0, .ref o), (1, .int (mKindB (ltA tp t al))), (2, .int (nI m))] dX4_reads_106 rfl (by decide) rfl ?_
                    refine z_iload_n (pc := 107) gX 2 dX4_reads_107 rfl rfl ?_
                    refine z_bipush (pc := 108) gX 7 dX4_reads_108 (by decide) ?_
                    refine z_icmp_ne (pc := 110) gX 119 dX4_reads_110 (by decide) (fun c110 => ?_) (fun c110 => ?_)
                    · skip
                      have k110 : ¬ m = 7 := fun h => c110 ((zn_eq (a := m) (b := 7) (by omega) (by omega)).mpr h)
                      refine z_aload_n (pc := 119) gX 0 dX4_reads_119 rfl rfl ?_
                      refine z_dup (pc := 120) gX dX4_reads_120 rfl ?_
                      refine z_get (pc := 121) gX (zI_ok gX hAX) (zm 0 rfl) (ci := 4) (C := RX4) (T := TX4) (N := 20) rfl in_X4 18 (by decide) q1401 (fun _ h => h) (v := .int ((upd x 5 (nI al)) 5)) rfl dX4_reads_121 ?_
                      refine z_top (nI al) pk_us ?_
                      refine z_iconst (pc := 124) gX 1 dX4_reads_124 (by decide) ?_
                      refine z_iadd (pc := 125) gX dX4_reads_125 ?_
                      refine z_top (nI (al + 1)) (nI_add al 1) ?_
                      refine z_put (pc := 126) gX hAX 0 rfl (ci := 4) (C := RX4) (T := TX4) (N := 20) rfl in_X4 tyX4 tyX4_ok nmX4 18 (by decide) q1401 (fun _ h => h) rfl (v := .int (nI (al + 1))) rfl rfl (Nat.le_of_ble_eq_true rfl) [mOb o ad (upd (upd x 5 (nI al)) 5 (nI (al + 1))), [(ad 4, .inl (D.1 100, 90, .inl tp))], [(ad 6, .inl (D.1 100, 25, .inl dl))]] rfl dX4_reads_126 ?_
                      refine z_aload_n (pc := 129) gX 0 dX4_reads_129 rfl rfl ?_
                      refine z_get (pc := 130) gX (zI_ok gX hAX) (zm 0 rfl) (ci := 4) (C := RX4) (T := TX4) (N := 20) rfl in_X4 9 (by decide) q1392 (fun _ h => h) (v := .ref (ad 6)) rfl dX4_reads_130 ?_
                      refine z_bipush (pc := 133) gX 18 dX4_reads_133 (by decide) ?_
                      refine z_iload_n (pc := 135) gX 2 dX4_reads_135 rfl rfl ?_
                      refine z_iadd (pc := 136) gX dX4_reads_136 ?_
                      refine z_top (nI (18 + m)) (nI_add 18 m) ?_
                      refine z_iload_n (pc := 137) gX 1 dX4_reads_137 rfl rfl ?_
                      refine z_iast (pc := 138) gX hAX 2 (j := (18 + m)) (n := 25) (f := dl) rfl (by omega) (by decide) [mOb o ad (upd (upd x 5 (nI al)) 5 (nI (al + 1))), [(ad 4, .inl (D.1 100, 90, .inl tp))], [(ad 6, .inl (D.1 100, 25, .inl (upd dl (18 + m) (mKindB (ltA tp t al)))))]] rfl dX4_reads_138 ?_
                      refine z_aload_n (pc := 139) gX 0 dX4_reads_139 rfl rfl ?_
                      refine z_get (pc := 140) gX (zI_ok gX hAX) (zm 0 rfl) (ci := 4) (C := RX4) (T := TX4) (N := 20) rfl in_X4 9 (by decide) q1392 (fun _ h => h) (v := .ref (ad 6)) rfl dX4_reads_140 ?_
                      refine z_iconst (pc := 143) gX 2 dX4_reads_143 (by decide) ?_
                      refine z_iload_n (pc := 144) gX 2 dX4_reads_144 rfl rfl ?_
                      refine z_iadd (pc := 145) gX dX4_reads_145 ?_
                      refine z_top (nI (2 + m)) (nI_add 2 m) ?_
                      refine z_iconst (pc := 146) gX (-1) dX4_reads_146 (by decide) ?_
                      refine z_iast (pc := 147) gX hAX 2 (j := (2 + m)) (n := 25) (f := (upd dl (18 + m) (mKindB (ltA tp t al)))) rfl (by omega) (by decide) [mOb o ad (upd (upd x 5 (nI al)) 5 (nI (al + 1))), [(ad 4, .inl (D.1 100, 90, .inl tp))], [(ad 6, .inl (D.1 100, 25, .inl (upd (upd dl (18 + m) (mKindB (ltA tp t al))) (2 + m) (-1))))]] rfl dX4_reads_147 ?_
                      refine z_aload_n (pc := 148) gX 0 dX4_reads_148 rfl rfl ?_
                      refine z_bipush (pc := 149) gX 9 dX4_reads_149 (by decide) ?_
                      refine z_iload_n (pc := 151) gX 2 dX4_reads_151 rfl rfl ?_
                      refine z_iadd (pc := 152) gX dX4_reads_152 ?_
                      refine z_top (nI (9 + m)) (nI_add 9 m) ?_
                      refine z_iconst (pc := 153) gX 0 dX4_reads_153 (by decide) ?_
                      refine z_iconst (pc := 154) gX 1 dX4_reads_154 (by decide) ?_
                      refine z_cMV (pc := 155) gX hAX [.int (nI (9 + m)), .int 0, .int 1] [] [0, 1, 2] [] (fun A1 => met_X4_number l D B0 A1 o ad (upd (upd x 5 (nI al)) 5 (nI (al + 1))) tp t (al + 1) (upd (upd dl (18 + m) (mKindB (ltA tp t al))) (2 + m) (-1)) (9 + m) 0 1 (by rw [pk_un (by decide)]; exact hty) (by first | assumption | omega) pk_us (by omega) (by first | assumption | omega)) q1509 q1511 qs34 q54 q1512 (zm 0 rfl) (ci := 4) rfl rfl hd_X4_number ⟨rfl, rfl⟩ ⟨(Nat.le_of_ble_eq_true rfl), (Nat.le_of_ble_eq_true rfl)⟩ rfl rfl rfl rfl rfl (Nat.le_of_ble_eq_true rfl) ⟨(Nat.le_of_ble_eq_true rfl), (Nat.le_of_ble_eq_true rfl)⟩ dX4_reads_155 ?_
                      intro u155 hu155
                      obtain ⟨b_155, x1_155, d1_155⟩ := u155
                      have hu155 : (b_155, x1_155, d1_155) = mNumb tp t (al + 1) (upd (upd x 5 (nI al)) 5 (nI (al + 1))) (upd (upd dl (18 + m) (mKindB (ltA tp t al))) (2 + m) (-1)) (9 + m) 0 1 := hu155
                      refine z_re [0, 1, 2] [mOb o ad x1_155, [(ad 4, .inl (D.1 100, 90, .inl tp))], [(ad 6, .inl (D.1 100, 25, .inl d1_155))]] rfl rfl ?_
                      refine z_eq (lv₂ := [(0, .ref o), (1, .int (mKindB (ltA tp t al))), (2, .int (nI m))]) (st₂ := [.int (bI b_155)]) ?_ rfl rfl
                      refine z_if_eq (pc := 158) gX 170 dX4_reads_158 (by decide) (fun c158 => ?_) (fun c158 => ?_)
                      · skip
                        have k158 : b_155 = false := bI_eq0 c158
                        obtain ⟨e155, hn155, ex155⟩ := mNumb_f hu155 k158
                        subst ex155
                        refine z_iconst (pc := 170) gX 0 dX4_reads_170 (by decide) ?_
                        exact z_rzm gX hQX (false, upd (upd x 5 (nI (al + 1))) 6 (nI e155), d1_155) (rdP_f (hrem.symm.trans (by rw [pLoop_s (by omega), if_pos hgo]; simp only [pRid, if_neg c90, if_neg k110, hn155, sB])) rfl) (⟨rfl, rfl⟩) rfl (by first | decide | omega) (by first | decide | omega) dX4_reads_171
                      · skip
                        have k158 : b_155 = true := bI_ne0 c158
                        obtain ⟨a155, v155, hn155, ex155, ed155, hl155, hm155_⟩ := mNumb_t hu155 k158
                        rw [upd_upd] at ex155
                        subst ex155
                        subst ed155
                        refine z_aload_n (pc := 161) gX 0 dX4_reads_161 rfl rfl ?_
                        refine z_bipush (pc := 162) gX 59 dX4_reads_162 (by decide) ?_
                        refine z_cMV (pc := 164) gX hAX [.int 59] [] [0, 1] [2] (fun A1 => met_X4_sign l D B0 A1 o ad (upd x 5 (nI a155)) tp t a155 59 (by rw [pk_un (by decide)]; exact hty) (by first | assumption | omega) pk_us (by omega)) q1497 q1499 qs31 q54 q1500 (zm 0 rfl) (ci := 4) rfl rfl hd_X4_sign ⟨rfl, rfl⟩ ⟨(Nat.le_of_ble_eq_true rfl), (Nat.le_of_ble_eq_true rfl)⟩ rfl rfl rfl rfl rfl (Nat.le_of_ble_eq_true rfl) ⟨(Nat.le_of_ble_eq_true rfl), (Nat.le_of_ble_eq_true rfl)⟩ dX4_reads_164 ?_
                        intro u164 hu164
                        obtain ⟨b_164, x1_164⟩ := u164
                        have hu164 : (b_164, x1_164) = mSign tp t a155 (upd x 5 (nI a155)) 59 := hu164
                        refine z_re [0, 1, 2] [mOb o ad x1_164, [(ad 4, .inl (D.1 100, 90, .inl tp))], [(ad 6, .inl (D.1 100, 25, .inl (upd (upd (upd dl (18 + m) (mKindB (ltA tp t al))) (2 + m) (-1)) (9 + m) v155)))]] rfl rfl ?_
                        refine z_eq (lv₂ := [(0, .ref o), (1, .int (mKindB (ltA tp t al))), (2, .int (nI m))]) (st₂ := [.int (bI b_164)]) ?_ rfl rfl
                        refine z_if_ne (pc := 167) gX 172 dX4_reads_167 (by decide) (fun c167 => ?_) (fun c167 => ?_)
                        · skip
                          have k167 : b_164 = true := bI_ne0 c167
                          obtain ⟨hs164, ex164, hl164⟩ := mSign_t hu164 k167 (by decide)
                          rw [upd_upd] at ex164
                          subst ex164
                          refine z_aload_n (pc := 172) gX 0 dX4_reads_172 rfl rfl ?_
                          refine z_get (pc := 173) gX (zI_ok gX hAX) (zm 0 rfl) (ci := 4) (C := RX4) (T := TX4) (N := 20) rfl in_X4 9 (by decide) q1392 (fun _ h => h) (v := .ref (ad 6)) rfl dX4_reads_173 ?_
                          refine z_bipush (pc := 176) gX 17 dX4_reads_176 (by decide) ?_
                          refine z_dup2 (pc := 178) gX dX4_reads_178 rfl rfl ?_
                          refine z_top (nI 17) rfl ?_
                          refine z_iald (pc := 179) gX (zI_ok gX hAX) (j := 17) (n := 25) (f := (upd (upd (upd dl (18 + m) (mKindB (ltA tp t al))) (2 + m) (-1)) (9 + m) v155)) (zm 2 rfl) (by omega) (by decide) dX4_reads_179 ?_
                          refine z_top (nI m) (by rw [pk_un (by omega), pk_un (by omega), pk_un (by omega)]; exact hdm) ?_
                          refine z_iconst (pc := 180) gX 1 dX4_reads_180 (by decide) ?_
                          refine z_iadd (pc := 181) gX dX4_reads_181 ?_
                          refine z_top (nI (m + 1)) (nI_add m 1) ?_
                          refine z_ixtop (nI 17) rfl ?_
                          refine z_iast (pc := 182) gX hAX 2 (j := 17) (n := 25) (f := (upd (upd (upd dl (18 + m) (mKindB (ltA tp t al))) (2 + m) (-1)) (9 + m) v155)) rfl (by omega) (by decide) [mOb o ad (upd x 5 (nI (a155 + 1))), [(ad 4, .inl (D.1 100, 90, .inl tp))], [(ad 6, .inl (D.1 100, 25, .inl (upd (upd (upd (upd dl (18 + m) (mKindB (ltA tp t al))) (2 + m) (-1)) (9 + m) v155) 17 (nI (m + 1)))))]] rfl dX4_reads_182 ?_
                          refine z_goto (pc := 183) gX 56 dX4_reads_183 (by decide) ?_
                          refine z_lv [0] [(0, .ref o)] rfl ?_
                          exact ih56 (a155 + 1) (m + 1) (upd (upd (upd (upd dl (18 + m) (mKindB (ltA tp t al))) (2 + m) (-1)) (9 + m) v155) 17 (nI (m + 1))) (by omega) (by omega) pk_us (by rw [pLoop_s (by omega), if_pos hgo] at hrem; rw [← hrem]; simp only [pRid, if_neg c90, if_neg k110, hn155, hs164, sB]; rw [show (upd (upd (upd dl (18 + m) (mKindB (ltA tp t al))) (2 + m) (-1)) (9 + m) v155) 17 = nI m by rw [pk_un (by omega), pk_un (by omega), pk_un (by omega)]; exact hdm, nI_1]) (by omega)
                        · skip
                          have k167 : b_164 = false := bI_eq0 c167
                          obtain ⟨hs164, ex164⟩ := mSign_f hu164 k167
                          subst ex164
                          refine z_iconst (pc := 170) gX 0 dX4_reads_170 (by decide) ?_
                          exact z_rzm gX hQX (false, upd (upd x 5 (nI a155)) 6 1, upd (upd (upd dl (18 + m) (mKindB (ltA tp t al))) (2 + m) (-1)) (9 + m) v155) (rdP_f (hrem.symm.trans (by rw [pLoop_s (by omega), if_pos hgo]; simp only [pRid, if_neg c90, if_neg k110, hn155, hs164, sB])) rfl) (⟨rfl, rfl⟩) rfl (by first | decide | omega) (by first | decide | omega) dX4_reads_171
                    · skip
                      have k110 : m = 7 := (zn_eq (a := m) (b := 7) (by omega) (by omega)).mp c110
                      refine z_aload_n (pc := 113) gX 0 dX4_reads_113 rfl rfl ?_
                      refine z_iconst (pc := 114) gX 3 dX4_reads_114 (by decide) ?_
                      refine z_cMV (pc := 115) gX hAX [.int 3] [] [0] [1, 2] (fun A1 => met_X4_fails l D B0 A1 o ad (upd x 5 (nI al)) 3 ) q1505 q1507 qs33 q54 q1508 (zm 0 rfl) (ci := 4) rfl rfl hd_X4_fails ⟨rfl, rfl⟩ ⟨(Nat.le_of_ble_eq_true rfl), (Nat.le_of_ble_eq_true rfl)⟩ rfl rfl rfl rfl rfl (Nat.le_of_ble_eq_true rfl) ⟨(Nat.le_of_ble_eq_true rfl), (Nat.le_of_ble_eq_true rfl)⟩ dX4_reads_115 ?_
                      intro _ hu115
                      refine z_re [0, 1, 2] [mOb o ad (upd (upd x 5 (nI al)) 6 3), [(ad 4, .inl (D.1 100, 90, .inl tp))], [(ad 6, .inl (D.1 100, 25, .inl dl))]] rfl rfl ?_
                      refine z_eq (lv₂ := [(0, .ref o), (1, .int (mKindB (ltA tp t al))), (2, .int (nI m))]) (st₂ := [.int (bI false)]) ?_ rfl rfl
                      exact z_rzm gX hQX (false, upd (upd x 5 (nI al)) 6 3, dl) (rdP_f (hrem.symm.trans (by rw [pLoop_s (by omega), if_pos hgo]; simp only [pRid, if_neg c90, if_pos k110, sB])) rfl) (⟨rfl, rfl⟩) rfl (by first | decide | omega) (by first | decide | omega) dX4_reads_118
                  · skip
                    refine z_aload_n (pc := 93) gX 0 dX4_reads_93 rfl rfl ?_
                    refine z_iconst (pc := 94) gX 1 dX4_reads_94 (by decide) ?_
                    refine z_cMV (pc := 95) gX hAX [.int 1] [] [0] [1, 2] (fun A1 => met_X4_fails l D B0 A1 o ad (upd x 5 (nI al)) 1 ) q1505 q1507 qs33 q54 q1508 (zm 0 rfl) (ci := 4) rfl rfl hd_X4_fails ⟨rfl, rfl⟩ ⟨(Nat.le_of_ble_eq_true rfl), (Nat.le_of_ble_eq_true rfl)⟩ rfl rfl rfl rfl rfl (Nat.le_of_ble_eq_true rfl) ⟨(Nat.le_of_ble_eq_true rfl), (Nat.le_of_ble_eq_true rfl)⟩ dX4_reads_95 ?_
                    intro _ hu95
                    refine z_re [0, 1, 2] [mOb o ad (upd (upd x 5 (nI al)) 6 1), [(ad 4, .inl (D.1 100, 90, .inl tp))], [(ad 6, .inl (D.1 100, 25, .inl dl))]] rfl rfl ?_
                    refine z_eq (lv₂ := [(0, .ref o), (1, .int (mKindB (ltA tp t al)))]) (st₂ := [.int (bI false)]) ?_ rfl rfl
                    exact z_rzm gX hQX (false, upd (upd x 5 (nI al)) 6 1, dl) (rdP_f (hrem.symm.trans (by rw [pLoop_s (by omega), if_pos hgo]; simp only [pRid, if_pos c90, sB])) rfl) (⟨rfl, rfl⟩) rfl (by first | decide | omega) (by first | decide | omega) dX4_reads_98
                · skip
                  have k64 : t ≤ al := (zn_nlt (a := al) (b := t) (by omega) (by omega)).mp c64
                  refine z_aload_n (pc := 67) gX 0 dX4_reads_67 rfl rfl ?_
                  refine z_get (pc := 68) gX (zI_ok gX hAX) (zm 0 rfl) (ci := 4) (C := RX4) (T := TX4) (N := 20) rfl in_X4 9 (by decide) q1392 (fun _ h => h) (v := .ref (ad 6)) rfl dX4_reads_68 ?_
                  refine z_bipush (pc := 71) gX 17 dX4_reads_71 (by decide) ?_
                  refine z_top (nI 17) rfl ?_
                  refine z_iald (pc := 73) gX (zI_ok gX hAX) (j := 17) (n := 25) (f := dl) (zm 2 rfl) (by omega) (by decide) dX4_reads_73 ?_
                  refine z_top (nI m) hdm ?_
                  refine z_if_ne (pc := 74) gX 186 dX4_reads_74 (by decide) (fun c74 => ?_) (fun c74 => ?_)
                  · skip
                    have hm0 : ¬ m = 0 := fun h => c74 ((zn_eq (a := m) (b := 0) (by omega) (by omega)).mpr h)
                    refine z_iconst (pc := 186) gX 1 dX4_reads_186 (by decide) ?_
                    exact z_rzm gX hQX (true, upd x 5 (nI al), dl) (rdP_t (hrem.symm.trans (by rw [pLoop_s (by omega), if_neg (by show ¬ (al < t ∨ m = 0); omega)])) rfl) (⟨rfl, rfl⟩) rfl (by first | decide | omega) (by first | decide | omega) dX4_reads_187
                  · skip
                    have hm0 : m = 0 := (zn_eq (a := m) (b := 0) (by omega) (by omega)).mp c74
                    have hgo : (al, dl).1 < t ∨ m = 0 := Or.inr hm0
                    refine z_aload_n (pc := 77) gX 0 dX4_reads_77 rfl rfl ?_
                    refine z_aload_n (pc := 78) gX 0 dX4_reads_78 rfl rfl ?_
                    refine z_get (pc := 79) gX (zI_ok gX hAX) (zm 0 rfl) (ci := 4) (C := RX4) (T := TX4) (N := 20) rfl in_X4 18 (by decide) q1401 (fun _ h => h) (v := .int ((upd x 5 (nI al)) 5)) rfl dX4_reads_79 ?_
                    refine z_top (nI al) pk_us ?_
                    refine z_cOV (pc := 82) gX (zI_ok gX hAX) [.int (nI al)] [] [0, 1] (met_X4_letterAt l D B0 o ad (upd x 5 (nI al)) tp t al (by rw [pk_un (by decide)]; exact hty) (by first | assumption | omega) (by omega)) q1501 q1503 qs32 q54 q1504 (zm 0 rfl) (ci := 4) rfl rfl hd_X4_letterAt ⟨rfl, rfl⟩ ⟨(Nat.le_of_ble_eq_true rfl), (Nat.le_of_ble_eq_true rfl)⟩ rfl rfl rfl (Nat.le_of_ble_eq_true rfl) ⟨(Nat.le_of_ble_eq_true rfl), (Nat.le_of_ble_eq_true rfl)⟩ dX4_reads_82 ?_
                    intro _ hu82
                    refine z_eq (lv₂ := [(0, .ref o)]) (st₂ := [.int (ltA tp t al)]) ?_ rfl rfl
                    refine z_cOS (pc := 85) gX (zI_ok gX hAX) [.int (ltA tp t al)] [] [] (met_X4_kindBy l D B0 (ltA tp t al) ) q1516 q1517 q54 q1518 hd_X4_kindBy ⟨rfl, rfl⟩ ⟨(Nat.le_of_ble_eq_true rfl), (Nat.le_of_ble_eq_true rfl)⟩ rfl rfl rfl (Nat.le_of_ble_eq_true rfl) ⟨(Nat.le_of_ble_eq_true rfl), (Nat.le_of_ble_eq_true rfl)⟩ dX4_reads_85 ?_
                    intro _ hu85
                    refine z_eq (lv₂ := [(0, .ref o)]) (st₂ := [.int (mKindB (ltA tp t al))]) ?_ rfl rfl
                    refine z_istore_n (pc := 88) gX [1, 0] [(0, .ref o), (1, .int (mKindB (ltA tp t al)))] dX4_reads_88 rfl (by decide) rfl ?_
                    refine z_iload_n (pc := 89) gX 1 dX4_reads_89 rfl rfl ?_
                    refine z_if_ne (pc := 90) gX 99 dX4_reads_90 (by decide) (fun c90 => ?_) (fun c90 => ?_)
                    · skip
                      refine z_aload_n (pc := 99) gX 0 dX4_reads_99 rfl rfl ?_
                      refine z_get (pc := 100) gX (zI_ok gX hAX) (zm 0 rfl) (ci := 4) (C := RX4) (T := TX4) (N := 20) rfl in_X4 9 (by decide) q1392 (fun _ h => h) (v := .ref (ad 6)) rfl dX4_reads_100 ?_
                      refine z_bipush (pc := 103) gX 17 dX4_reads_103 (by decide) ?_
                      refine z_top (nI 17) rfl ?_
                      refine z_iald (pc := 105) gX (zI_ok gX hAX) (j := 17) (n := 25) (f := dl) (zm 2 rfl) (by omega) (by decide) dX4_reads_105 ?_
                      refine z_top (nI m) hdm ?_
                      refine z_istore_n (pc := 106) gX [1, 2, 0] [(0, .ref o), (1, .int (mKindB (ltA tp t al))), (2, .int (nI m))] dX4_reads_106 rfl (by decide) rfl ?_
                      refine z_iload_n (pc := 107) gX 2 dX4_reads_107 rfl rfl ?_
                      refine z_bipush (pc := 108) gX 7 dX4_reads_108 (by decide) ?_
                      refine z_icmp_ne (pc := 110) gX 119 dX4_reads_110 (by decide) (fun c110 => ?_) (fun c110 => ?_)
                      · skip
                        have k110 : ¬ m = 7 := fun h => c110 ((zn_eq (a := m) (b := 7) (by omega) (by omega)).mpr h)
                        refine z_aload_n (pc := 119) gX 0 dX4_reads_119 rfl rfl ?_
                        refine z_dup (pc := 120) gX dX4_reads_120 rfl ?_
                        refine z_get (pc := 121) gX (zI_ok gX hAX) (zm 0 rfl) (ci := 4) (C := RX4) (T := TX4) (N := 20) rfl in_X4 18 (by decide) q1401 (fun _ h => h) (v := .int ((upd x 5 (nI al)) 5)) rfl dX4_reads_121 ?_
                        refine z_top (nI al) pk_us ?_
                        refine z_iconst (pc := 124) gX 1 dX4_reads_124 (by decide) ?_
                        refine z_iadd (pc := 125) gX dX4_reads_125 ?_
                        refine z_top (nI (al + 1)) (nI_add al 1) ?_
                        refine z_put (pc := 126) gX hAX 0 rfl (ci := 4) (C := RX4) (T := TX4) (N := 20) rfl in_X4 tyX4 tyX4_ok nmX4 18 (by decide) q1401 (fun _ h => h) rfl (v := .int (nI (al + 1))) rfl rfl (Nat.le_of_ble_eq_true rfl) [mOb o ad (upd (upd x 5 (nI al)) 5 (nI (al + 1))), [(ad 4, .inl (D.1 100, 90, .inl tp))], [(ad 6, .inl (D.1 100, 25, .inl dl))]] rfl dX4_reads_126 ?_
                        refine z_aload_n (pc := 129) gX 0 dX4_reads_129 rfl rfl ?_
                        refine z_get (pc := 130) gX (zI_ok gX hAX) (zm 0 rfl) (ci := 4) (C := RX4) (T := TX4) (N := 20) rfl in_X4 9 (by decide) q1392 (fun _ h => h) (v := .ref (ad 6)) rfl dX4_reads_130 ?_
                        refine z_bipush (pc := 133) gX 18 dX4_reads_133 (by decide) ?_
                        refine z_iload_n (pc := 135) gX 2 dX4_reads_135 rfl rfl ?_
                        refine z_iadd (pc := 136) gX dX4_reads_136 ?_
                        refine z_top (nI (18 + m)) (nI_add 18 m) ?_
                        refine z_iload_n (pc := 137) gX 1 dX4_reads_137 rfl rfl ?_
                        refine z_iast (pc := 138) gX hAX 2 (j := (18 + m)) (n := 25) (f := dl) rfl (by omega) (by decide) [mOb o ad (upd (upd x 5 (nI al)) 5 (nI (al + 1))), [(ad 4, .inl (D.1 100, 90, .inl tp))], [(ad 6, .inl (D.1 100, 25, .inl (upd dl (18 + m) (mKindB (ltA tp t al)))))]] rfl dX4_reads_138 ?_
                        refine z_aload_n (pc := 139) gX 0 dX4_reads_139 rfl rfl ?_
                        refine z_get (pc := 140) gX (zI_ok gX hAX) (zm 0 rfl) (ci := 4) (C := RX4) (T := TX4) (N := 20) rfl in_X4 9 (by decide) q1392 (fun _ h => h) (v := .ref (ad 6)) rfl dX4_reads_140 ?_
                        refine z_iconst (pc := 143) gX 2 dX4_reads_143 (by decide) ?_
                        refine z_iload_n (pc := 144) gX 2 dX4_reads_144 rfl rfl ?_
                        refine z_iadd (pc := 145) gX dX4_reads_145 ?_
                        refine z_top (nI (2 + m)) (nI_add 2 m) ?_
                        refine z_iconst (pc := 146) gX (-1) dX4_reads_146 (by decide) ?_
                        refine z_iast (pc := 147) gX hAX 2 (j := (2 + m)) (n := 25) (f := (upd dl (18 + m) (mKindB (ltA tp t al)))) rfl (by omega) (by decide) [mOb o ad (upd (upd x 5 (nI al)) 5 (nI (al + 1))), [(ad 4, .inl (D.1 100, 90, .inl tp))], [(ad 6, .inl (D.1 100, 25, .inl (upd (upd dl (18 + m) (mKindB (ltA tp t al))) (2 + m) (-1))))]] rfl dX4_reads_147 ?_
                        refine z_aload_n (pc := 148) gX 0 dX4_reads_148 rfl rfl ?_
                        refine z_bipush (pc := 149) gX 9 dX4_reads_149 (by decide) ?_
                        refine z_iload_n (pc := 151) gX 2 dX4_reads_151 rfl rfl ?_
                        refine z_iadd (pc := 152) gX dX4_reads_152 ?_
                        refine z_top (nI (9 + m)) (nI_add 9 m) ?_
                        refine z_iconst (pc := 153) gX 0 dX4_reads_153 (by decide) ?_
                        refine z_iconst (pc := 154) gX 1 dX4_reads_154 (by decide) ?_
                        refine z_cMV (pc := 155) gX hAX [.int (nI (9 + m)), .int 0, .int 1] [] [0, 1, 2] [] (fun A1 => met_X4_number l D B0 A1 o ad (upd (upd x 5 (nI al)) 5 (nI (al + 1))) tp t (al + 1) (upd (upd dl (18 + m) (mKindB (ltA tp t al))) (2 + m) (-1)) (9 + m) 0 1 (by rw [pk_un (by decide)]; exact hty) (by first | assumption | omega) pk_us (by omega) (by first | assumption | omega)) q1509 q1511 qs34 q54 q1512 (zm 0 rfl) (ci := 4) rfl rfl hd_X4_number ⟨rfl, rfl⟩ ⟨(Nat.le_of_ble_eq_true rfl), (Nat.le_of_ble_eq_true rfl)⟩ rfl rfl rfl rfl rfl (Nat.le_of_ble_eq_true rfl) ⟨(Nat.le_of_ble_eq_true rfl), (Nat.le_of_ble_eq_true rfl)⟩ dX4_reads_155 ?_
                        intro u155 hu155
                        obtain ⟨b_155, x1_155, d1_155⟩ := u155
                        have hu155 : (b_155, x1_155, d1_155) = mNumb tp t (al + 1) (upd (upd x 5 (nI al)) 5 (nI (al + 1))) (upd (upd dl (18 + m) (mKindB (ltA tp t al))) (2 + m) (-1)) (9 + m) 0 1 := hu155
                        refine z_re [0, 1, 2] [mOb o ad x1_155, [(ad 4, .inl (D.1 100, 90, .inl tp))], [(ad 6, .inl (D.1 100, 25, .inl d1_155))]] rfl rfl ?_
                        refine z_eq (lv₂ := [(0, .ref o), (1, .int (mKindB (ltA tp t al))), (2, .int (nI m))]) (st₂ := [.int (bI b_155)]) ?_ rfl rfl
                        refine z_if_eq (pc := 158) gX 170 dX4_reads_158 (by decide) (fun c158 => ?_) (fun c158 => ?_)
                        · skip
                          have k158 : b_155 = false := bI_eq0 c158
                          obtain ⟨e155, hn155, ex155⟩ := mNumb_f hu155 k158
                          subst ex155
                          refine z_iconst (pc := 170) gX 0 dX4_reads_170 (by decide) ?_
                          exact z_rzm gX hQX (false, upd (upd x 5 (nI (al + 1))) 6 (nI e155), d1_155) (rdP_f (hrem.symm.trans (by rw [pLoop_s (by omega), if_pos hgo]; simp only [pRid, if_neg c90, if_neg k110, hn155, sB])) rfl) (⟨rfl, rfl⟩) rfl (by first | decide | omega) (by first | decide | omega) dX4_reads_171
                        · skip
                          have k158 : b_155 = true := bI_ne0 c158
                          obtain ⟨a155, v155, hn155, ex155, ed155, hl155, hm155_⟩ := mNumb_t hu155 k158
                          rw [upd_upd] at ex155
                          subst ex155
                          subst ed155
                          refine z_aload_n (pc := 161) gX 0 dX4_reads_161 rfl rfl ?_
                          refine z_bipush (pc := 162) gX 59 dX4_reads_162 (by decide) ?_
                          refine z_cMV (pc := 164) gX hAX [.int 59] [] [0, 1] [2] (fun A1 => met_X4_sign l D B0 A1 o ad (upd x 5 (nI a155)) tp t a155 59 (by rw [pk_un (by decide)]; exact hty) (by first | assumption | omega) pk_us (by omega)) q1497 q1499 qs31 q54 q1500 (zm 0 rfl) (ci := 4) rfl rfl hd_X4_sign ⟨rfl, rfl⟩ ⟨(Nat.le_of_ble_eq_true rfl), (Nat.le_of_ble_eq_true rfl)⟩ rfl rfl rfl rfl rfl (Nat.le_of_ble_eq_true rfl) ⟨(Nat.le_of_ble_eq_true rfl), (Nat.le_of_ble_eq_true rfl)⟩ dX4_reads_164 ?_
                          intro u164 hu164
                          obtain ⟨b_164, x1_164⟩ := u164
                          have hu164 : (b_164, x1_164) = mSign tp t a155 (upd x 5 (nI a155)) 59 := hu164
                          refine z_re [0, 1, 2] [mOb o ad x1_164, [(ad 4, .inl (D.1 100, 90, .inl tp))], [(ad 6, .inl (D.1 100, 25, .inl (upd (upd (upd dl (18 + m) (mKindB (ltA tp t al))) (2 + m) (-1)) (9 + m) v155)))]] rfl rfl ?_
                          refine z_eq (lv₂ := [(0, .ref o), (1, .int (mKindB (ltA tp t al))), (2, .int (nI m))]) (st₂ := [.int (bI b_164)]) ?_ rfl rfl
                          refine z_if_ne (pc := 167) gX 172 dX4_reads_167 (by decide) (fun c167 => ?_) (fun c167 => ?_)
                          · skip
                            have k167 : b_164 = true := bI_ne0 c167
                            obtain ⟨hs164, ex164, hl164⟩ := mSign_t hu164 k167 (by decide)
                            rw [upd_upd] at ex164
                            subst ex164
                            refine z_aload_n (pc := 172) gX 0 dX4_reads_172 rfl rfl ?_
                            refine z_get (pc := 173) gX (zI_ok gX hAX) (zm 0 rfl) (ci := 4) (C := RX4) (T := TX4) (N := 20) rfl in_X4 9 (by decide) q1392 (fun _ h => h) (v := .ref (ad 6)) rfl dX4_reads_173 ?_
                            refine z_bipush (pc := 176) gX 17 dX4_reads_176 (by decide) ?_
                            refine z_dup2 (pc := 178) gX dX4_reads_178 rfl rfl ?_
                            refine z_top (nI 17) rfl ?_
                            refine z_iald (pc := 179) gX (zI_ok gX hAX) (j := 17) (n := 25) (f := (upd (upd (upd dl (18 + m) (mKindB (ltA tp t al))) (2 + m) (-1)) (9 + m) v155)) (zm 2 rfl) (by omega) (by decide) dX4_reads_179 ?_
                            refine z_top (nI m) (by rw [pk_un (by omega), pk_un (by omega), pk_un (by omega)]; exact hdm) ?_
                            refine z_iconst (pc := 180) gX 1 dX4_reads_180 (by decide) ?_
                            refine z_iadd (pc := 181) gX dX4_reads_181 ?_
                            refine z_top (nI (m + 1)) (nI_add m 1) ?_
                            refine z_ixtop (nI 17) rfl ?_
                            refine z_iast (pc := 182) gX hAX 2 (j := 17) (n := 25) (f := (upd (upd (upd dl (18 + m) (mKindB (ltA tp t al))) (2 + m) (-1)) (9 + m) v155)) rfl (by omega) (by decide) [mOb o ad (upd x 5 (nI (a155 + 1))), [(ad 4, .inl (D.1 100, 90, .inl tp))], [(ad 6, .inl (D.1 100, 25, .inl (upd (upd (upd (upd dl (18 + m) (mKindB (ltA tp t al))) (2 + m) (-1)) (9 + m) v155) 17 (nI (m + 1)))))]] rfl dX4_reads_182 ?_
                            refine z_goto (pc := 183) gX 56 dX4_reads_183 (by decide) ?_
                            refine z_lv [0] [(0, .ref o)] rfl ?_
                            exact ih56 (a155 + 1) (m + 1) (upd (upd (upd (upd dl (18 + m) (mKindB (ltA tp t al))) (2 + m) (-1)) (9 + m) v155) 17 (nI (m + 1))) (by omega) (by omega) pk_us (by rw [pLoop_s (by omega), if_pos hgo] at hrem; rw [← hrem]; simp only [pRid, if_neg c90, if_neg k110, hn155, hs164, sB]; rw [show (upd (upd (upd dl (18 + m) (mKindB (ltA tp t al))) (2 + m) (-1)) (9 + m) v155) 17 = nI m by rw [pk_un (by omega), pk_un (by omega), pk_un (by omega)]; exact hdm, nI_1]) (by omega)
                          · skip
                            have k167 : b_164 = false := bI_eq0 c167
                            obtain ⟨hs164, ex164⟩ := mSign_f hu164 k167
                            subst ex164
                            refine z_iconst (pc := 170) gX 0 dX4_reads_170 (by decide) ?_
                            exact z_rzm gX hQX (false, upd (upd x 5 (nI a155)) 6 1, upd (upd (upd dl (18 + m) (mKindB (ltA tp t al))) (2 + m) (-1)) (9 + m) v155) (rdP_f (hrem.symm.trans (by rw [pLoop_s (by omega), if_pos hgo]; simp only [pRid, if_neg c90, if_neg k110, hn155, hs164, sB])) rfl) (⟨rfl, rfl⟩) rfl (by first | decide | omega) (by first | decide | omega) dX4_reads_171
                      · skip
                        have k110 : m = 7 := (zn_eq (a := m) (b := 7) (by omega) (by omega)).mp c110
                        refine z_aload_n (pc := 113) gX 0 dX4_reads_113 rfl rfl ?_
                        refine z_iconst (pc := 114) gX 3 dX4_reads_114 (by decide) ?_
                        refine z_cMV (pc := 115) gX hAX [.int 3] [] [0] [1, 2] (fun A1 => met_X4_fails l D B0 A1 o ad (upd x 5 (nI al)) 3 ) q1505 q1507 qs33 q54 q1508 (zm 0 rfl) (ci := 4) rfl rfl hd_X4_fails ⟨rfl, rfl⟩ ⟨(Nat.le_of_ble_eq_true rfl), (Nat.le_of_ble_eq_true rfl)⟩ rfl rfl rfl rfl rfl (Nat.le_of_ble_eq_true rfl) ⟨(Nat.le_of_ble_eq_true rfl), (Nat.le_of_ble_eq_true rfl)⟩ dX4_reads_115 ?_
                        intro _ hu115
                        refine z_re [0, 1, 2] [mOb o ad (upd (upd x 5 (nI al)) 6 3), [(ad 4, .inl (D.1 100, 90, .inl tp))], [(ad 6, .inl (D.1 100, 25, .inl dl))]] rfl rfl ?_
                        refine z_eq (lv₂ := [(0, .ref o), (1, .int (mKindB (ltA tp t al))), (2, .int (nI m))]) (st₂ := [.int (bI false)]) ?_ rfl rfl
                        exact z_rzm gX hQX (false, upd (upd x 5 (nI al)) 6 3, dl) (rdP_f (hrem.symm.trans (by rw [pLoop_s (by omega), if_pos hgo]; simp only [pRid, if_neg c90, if_pos k110, sB])) rfl) (⟨rfl, rfl⟩) rfl (by first | decide | omega) (by first | decide | omega) dX4_reads_118
                    · skip
                      refine z_aload_n (pc := 93) gX 0 dX4_reads_93 rfl rfl ?_
                      refine z_iconst (pc := 94) gX 1 dX4_reads_94 (by decide) ?_
                      refine z_cMV (pc := 95) gX hAX [.int 1] [] [0] [1, 2] (fun A1 => met_X4_fails l D B0 A1 o ad (upd x 5 (nI al)) 1 ) q1505 q1507 qs33 q54 q1508 (zm 0 rfl) (ci := 4) rfl rfl hd_X4_fails ⟨rfl, rfl⟩ ⟨(Nat.le_of_ble_eq_true rfl), (Nat.le_of_ble_eq_true rfl)⟩ rfl rfl rfl rfl rfl (Nat.le_of_ble_eq_true rfl) ⟨(Nat.le_of_ble_eq_true rfl), (Nat.le_of_ble_eq_true rfl)⟩ dX4_reads_95 ?_
                      intro _ hu95
                      refine z_re [0, 1, 2] [mOb o ad (upd (upd x 5 (nI al)) 6 1), [(ad 4, .inl (D.1 100, 90, .inl tp))], [(ad 6, .inl (D.1 100, 25, .inl dl))]] rfl rfl ?_
                      refine z_eq (lv₂ := [(0, .ref o), (1, .int (mKindB (ltA tp t al)))]) (st₂ := [.int (bI false)]) ?_ rfl rfl
                      exact z_rzm gX hQX (false, upd (upd x 5 (nI al)) 6 1, dl) (rdP_f (hrem.symm.trans (by rw [pLoop_s (by omega), if_pos hgo]; simp only [pRid, if_pos c90, sB])) rfl) (⟨rfl, rfl⟩) rfl (by first | decide | omega) (by first | decide | omega) dX4_reads_98
            exact L56 ((8 - 0) + 1) (a39 + 1) 0 (upd (upd d 16 v20) 1 v39) (by omega) (by omega) (by rw [pk_un (by decide), pk_un (by decide)]; exact hd17) (by simp only [pAll, sB, hs8, hn20, hs29, hn39, hs48]) (Nat.lt_succ_self _)
          · skip
            have k51 : b_48 = false := bI_eq0 c51
            obtain ⟨hs48, ex48⟩ := mSign_f hu48 k51
            subst ex48
            refine z_iconst (pc := 54) gX 0 dX4_reads_54 (by decide) ?_
            exact z_rzm gX hQX (false, upd (upd x 5 (nI a39)) 6 1, upd (upd d 16 v20) 1 v39) (rdP_f (by simp only [pAll, sB, hs8, hn20, hs29, hn39, hs48]) rfl) (⟨rfl, rfl⟩) rfl (by first | decide | omega) (by first | decide | omega) dX4_reads_55
theorem hd_X4_reads : zHd yX4_reads 0 := by unfold zHd; decide +kernel

set_option maxHeartbeats 4000000 in
theorem met_X4_stair (l : Launch) (D : va_G) (B0 : Nat) (A : Nat → Prop) (o : Nat) (ad : Nat → Nat) (x : Nat → Int32) (tp : Nat → Int32) (t : Nat) (c : Nat → Int32) (d : Nat → Int32) (hty : x 1 = nI t) (ht90 : t ≤ 90) : Met l yX4_stair (ws_ yX4_stair cX4_stair 3 (some .int)) (zRm 5 0 0) (va_Pc [.ref o] (zPre B0 D A [mOb o ad x, [(ad 4, .inl (D.1 100, 90, .inl tp))], [(ad 5, .inl (D.1 100, 25, .inl c))], [(ad 6, .inl (D.1 100, 25, .inl d))]])) (zQ (S := Int32 × (Nat → Int32) × (Nat → Int32) × (Nat → Int32)) (fun u => (fun (r_ : Int32) (x1 : Nat → Int32) (c1 : Nat → Int32) (d1 : Nat → Int32) => mStair tp t x c r_ x1 c1) u.1 u.2.1 u.2.2.1 u.2.2.2) (fun u => (fun (r_ : Int32) (x1 : Nat → Int32) (c1 : Nat → Int32) (d1 : Nat → Int32) => some (.int r_)) u.1 u.2.1 u.2.2.1 u.2.2.2) (fun u => (fun (r_ : Int32) (x1 : Nat → Int32) (c1 : Nat → Int32) (d1 : Nat → Int32) => [mOb o ad x1, [(ad 4, .inl (D.1 100, 90, .inl tp))], [(ad 5, .inl (D.1 100, 25, .inl c1))], [(ad 6, .inl (D.1 100, 25, .inl d1))]]) u.1 u.2.1 u.2.2.1 u.2.2.2) D A) 0 0 A := by
  refine z_entry (by decide +kernel) (Nat.le_of_ble_eq_true rfl) (fun pX eX sX mX argsX blX mtX cX QX hQX gX hAX hnm => ?_)
  refine z_eq (lv₂ := [(0, .ref o)]) (st₂ := []) ?_ rfl rfl
  refine z_iconst (pc := 0) gX 0 dX4_stair_0 (by decide) ?_
  refine z_istore_n (pc := 1) gX [1, 0] [(0, .ref o), (1, .int 0)] dX4_stair_1 rfl (by decide) rfl ?_
  have L2 : ∀ (n2 : Nat) (i2 : Nat) (f2 : Nat → Int32), (i2 ≤ 25) → (∀ q, q < i2 → f2 q = 0) → 25 - i2 < n2 → zJ pX l eX (zRm 5 0 0) sX mX argsX blX mtX cX QX 3 (zI D A sX [mOb o ad x, [(ad 4, .inl (D.1 100, 90, .inl tp))], [(ad 5, .inl (D.1 100, 25, .inl c))], [(ad 6, .inl (D.1 100, 25, .inl f2))]]) 0 0 2 [(0, .ref o), (1, .int (nI i2))] [] := by
    intro n2
    induction n2 with
    | zero => exact fun i2 f2 hi2 hf2 hm2 => absurd hm2 (Nat.not_lt_zero _)
    | succ n2 ih2 =>
      intro i2 f2 hi2 hf2 hm2
      refine z_iload_n (pc := 2) gX 1 dX4_stair_2 rfl rfl ?_
      refine z_bipush (pc := 3) gX 25 dX4_stair_3 (by decide) ?_
      refine z_icmp_ge (pc := 5) gX 21 dX4_stair_5 (by decide) (fun c5 => ?_) (fun c5 => ?_)
      · skip
        have k5 : 25 ≤ i2 := (zn_le (a := 25) (b := i2) (by omega) (by omega)).mp c5
        refine z_ext 3 (fun _ => 0) rfl (fun q hq => hf2 q (by omega)) [mOb o ad x, [(ad 4, .inl (D.1 100, 90, .inl tp))], [(ad 5, .inl (D.1 100, 25, .inl c))], [(ad 6, .inl (D.1 100, 25, .inl (fun _ => 0)))]] rfl ?_
        refine z_aload_n (pc := 21) gX 0 dX4_stair_21 rfl rfl ?_
        refine z_cMV (pc := 22) gX hAX [] [] [0, 1, 3] [2] (fun A1 => met_X4_reads l D B0 A1 o ad x tp t (fun _ => 0) (by first | assumption | omega) (by first | assumption | omega) rfl) q1493 q1495 qs30 q54 q1496 (zm 0 rfl) (ci := 4) rfl rfl hd_X4_reads ⟨rfl, rfl⟩ ⟨(Nat.le_of_ble_eq_true rfl), (Nat.le_of_ble_eq_true rfl)⟩ rfl rfl rfl rfl rfl (Nat.le_of_ble_eq_true rfl) ⟨(Nat.le_of_ble_eq_true rfl), (Nat.le_of_ble_eq_true rfl)⟩ dX4_stair_22 ?_
        intro u22 hu22
        obtain ⟨b_22, x1_22, d1_22⟩ := u22
        have hu22 : rdP tp t x (fun _ => 0) b_22 x1_22 d1_22 := hu22
        refine z_re [0, 1, 3, 2] [mOb o ad x1_22, [(ad 4, .inl (D.1 100, 90, .inl tp))], [(ad 5, .inl (D.1 100, 25, .inl c))], [(ad 6, .inl (D.1 100, 25, .inl d1_22))]] rfl rfl ?_
        refine z_eq (lv₂ := [(0, .ref o), (1, .int (nI i2))]) (st₂ := [.int (bI b_22)]) ?_ rfl rfl
        refine z_istore_n (pc := 25) gX [1, 0] [(0, .ref o), (1, .int (bI b_22))] dX4_stair_25 rfl (by decide) rfl ?_
        refine z_aload_n (pc := 26) gX 0 dX4_stair_26 rfl rfl ?_
        refine z_iconst (pc := 27) gX 0 dX4_stair_27 (by decide) ?_
        refine z_put (pc := 28) gX hAX 0 rfl (ci := 4) (C := RX4) (T := TX4) (N := 20) rfl in_X4 tyX4 tyX4_ok nmX4 6 (by decide) q1389 (fun _ h => h) rfl (v := .int 0) rfl rfl (Nat.le_of_ble_eq_true rfl) [mOb o ad (upd x1_22 1 0), [(ad 4, .inl (D.1 100, 90, .inl tp))], [(ad 5, .inl (D.1 100, 25, .inl c))], [(ad 6, .inl (D.1 100, 25, .inl d1_22))]] rfl dX4_stair_28 ?_
        refine z_iload_n (pc := 31) gX 1 dX4_stair_31 rfl rfl ?_
        refine z_if_ne (pc := 32) gX 51 dX4_stair_32 (by decide) (fun c32 => ?_) (fun c32 => ?_)
        · skip
          have k32 : b_22 = true := bI_ne0 c32
          obtain ⟨a_, hp, hx⟩ : ∃ a_, pAll tp t (fun _ => 0) = .inr (a_, d1_22) ∧ x1_22 = upd x 5 (nI a_) := by rcases rdP_cases hu22 with h | h; exact absurd (h.1.symm.trans k32) (by decide); exact h.2
          subst hx
          refine z_iconst (pc := 51) gX 0 dX4_stair_51 (by decide) ?_
          refine z_istore_n (pc := 52) gX [1, 2, 0] [(0, .ref o), (1, .int (bI b_22)), (2, .int 0)] dX4_stair_52 rfl (by decide) rfl ?_
          have L53 : ∀ (n53 : Nat) (i53 : Nat) (f53 : Nat → Int32), (i53 ≤ 25) → (∀ q, q < i53 → f53 q = d1_22 q) → 25 - i53 < n53 → zJ pX l eX (zRm 5 0 0) sX mX argsX blX mtX cX QX 3 (zI D A sX [mOb o ad (upd (upd x 5 (nI a_)) 1 0), [(ad 4, .inl (D.1 100, 90, .inl tp))], [(ad 5, .inl (D.1 100, 25, .inl f53))], [(ad 6, .inl (D.1 100, 25, .inl d1_22))]]) 0 0 53 [(0, .ref o), (1, .int (bI b_22)), (2, .int (nI i53))] [] := by
            intro n53
            induction n53 with
            | zero => exact fun i53 f53 hi53 hf53 hm53 => absurd hm53 (Nat.not_lt_zero _)
            | succ n53 ih53 =>
              intro i53 f53 hi53 hf53 hm53
              refine z_iload_n (pc := 53) gX 2 dX4_stair_53 rfl rfl ?_
              refine z_bipush (pc := 54) gX 25 dX4_stair_54 (by decide) ?_
              refine z_icmp_ge (pc := 56) gX 77 dX4_stair_56 (by decide) (fun c56 => ?_) (fun c56 => ?_)
              · skip
                have k56 : 25 ≤ i53 := (zn_le (a := 25) (b := i53) (by omega) (by omega)).mp c56
                refine z_ext 2 d1_22 rfl (fun q hq => hf53 q (by omega)) [mOb o ad (upd (upd x 5 (nI a_)) 1 0), [(ad 4, .inl (D.1 100, 90, .inl tp))], [(ad 5, .inl (D.1 100, 25, .inl d1_22))], [(ad 6, .inl (D.1 100, 25, .inl d1_22))]] rfl ?_
                refine z_aload_n (pc := 77) gX 0 dX4_stair_77 rfl rfl ?_
                refine z_iconst (pc := 78) gX 0 dX4_stair_78 (by decide) ?_
                refine z_put (pc := 79) gX hAX 0 rfl (ci := 4) (C := RX4) (T := TX4) (N := 20) rfl in_X4 tyX4 tyX4_ok nmX4 13 (by decide) q1396 (fun _ h => h) rfl (v := .int 0) rfl rfl (Nat.le_of_ble_eq_true rfl) [mOb o ad (upd (upd (upd x 5 (nI a_)) 1 0) 3 0), [(ad 4, .inl (D.1 100, 90, .inl tp))], [(ad 5, .inl (D.1 100, 25, .inl d1_22))], [(ad 6, .inl (D.1 100, 25, .inl d1_22))]] rfl dX4_stair_79 ?_
                refine z_aload_n (pc := 82) gX 0 dX4_stair_82 rfl rfl ?_
                refine z_get (pc := 83) gX (zI_ok gX hAX) (zm 0 rfl) (ci := 4) (C := RX4) (T := TX4) (N := 20) rfl in_X4 8 (by decide) q1391 (fun _ h => h) (v := .ref (ad 5)) rfl dX4_stair_83 ?_
                refine z_bipush (pc := 86) gX 17 dX4_stair_86 (by decide) ?_
                refine z_top (nI 17) rfl ?_
                refine z_iald (pc := 88) gX (zI_ok gX hAX) (j := 17) (n := 25) (f := d1_22) (zm 2 rfl) (by omega) (by decide) dX4_stair_88 ?_
                exact z_rim gX hQX (d1_22 17, upd (upd (upd x 5 (nI a_)) 1 0) 3 0, d1_22, d1_22) (mStair_t hp rfl rfl (fun j hj => by rcases (show j = 0 ∨ j = 1 ∨ j = 2 ∨ j = 3 ∨ j = 4 by omega) with rfl | rfl | rfl | rfl | rfl <;> rfl)) rfl rfl (by first | decide | omega) (by first | decide | omega) dX4_stair_89
              · skip
                have k56 : i53 < 25 := (zn_nle (a := 25) (b := i53) (by omega) (by omega)).mp c56
                refine z_aload_n (pc := 59) gX 0 dX4_stair_59 rfl rfl ?_
                refine z_get (pc := 60) gX (zI_ok gX hAX) (zm 0 rfl) (ci := 4) (C := RX4) (T := TX4) (N := 20) rfl in_X4 8 (by decide) q1391 (fun _ h => h) (v := .ref (ad 5)) rfl dX4_stair_60 ?_
                refine z_iload_n (pc := 63) gX 2 dX4_stair_63 rfl rfl ?_
                refine z_aload_n (pc := 64) gX 0 dX4_stair_64 rfl rfl ?_
                refine z_get (pc := 65) gX (zI_ok gX hAX) (zm 0 rfl) (ci := 4) (C := RX4) (T := TX4) (N := 20) rfl in_X4 9 (by decide) q1392 (fun _ h => h) (v := .ref (ad 6)) rfl dX4_stair_65 ?_
                refine z_iload_n (pc := 68) gX 2 dX4_stair_68 rfl rfl ?_
                refine z_iald (pc := 69) gX (zI_ok gX hAX) (j := i53) (n := 25) (f := d1_22) (zm 3 rfl) (by omega) (by decide) dX4_stair_69 ?_
                refine z_iast (pc := 70) gX hAX 2 (j := i53) (n := 25) (f := f53) rfl (by omega) (by decide) [mOb o ad (upd (upd x 5 (nI a_)) 1 0), [(ad 4, .inl (D.1 100, 90, .inl tp))], [(ad 5, .inl (D.1 100, 25, .inl (upd f53 i53 (d1_22 i53))))], [(ad 6, .inl (D.1 100, 25, .inl d1_22))]] rfl dX4_stair_70 ?_
                refine z_iinc (pc := 71) gX 2 (nI (i53 + 1)) [1, 2, 0] [(0, .ref o), (1, .int (bI b_22)), (2, .int (nI (i53 + 1)))] dX4_stair_71 rfl (nI_1 _) (by decide) rfl ?_
                refine z_goto (pc := 74) gX 53 dX4_stair_74 (by decide) ?_
                exact ih53 (i53 + 1) (upd f53 i53 (d1_22 i53)) (by omega) (fun q hq => by rcases (show q < i53 ∨ q = i53 by omega) with h | h; exact (pk_un (by omega)).trans (hf53 q h); rw [h, pk_us]) (by omega)
          exact L53 ((25 - 0) + 1) 0 c (by omega) (fun q hq => absurd hq (Nat.not_lt_zero _)) (Nat.lt_succ_self _)
        · skip
          have k32 : b_22 = false := bI_eq0 c32
          obtain ⟨e_, a_, hp, hx⟩ : ∃ e_ a_, pAll tp t (fun _ => 0) = .inl (e_, a_) ∧ x1_22 = upd (upd x 5 (nI a_)) 6 (nI e_) := by rcases rdP_cases hu22 with h | h; exact h.2; exact absurd (h.1.symm.trans k32) (by decide)
          subst hx
          refine z_aload_n (pc := 35) gX 0 dX4_stair_35 rfl rfl ?_
          refine z_aload_n (pc := 36) gX 0 dX4_stair_36 rfl rfl ?_
          refine z_get (pc := 37) gX (zI_ok gX hAX) (zm 0 rfl) (ci := 4) (C := RX4) (T := TX4) (N := 20) rfl in_X4 19 (by decide) q1402 (fun _ h => h) (v := .int ((upd (upd x 5 (nI a_)) 6 (nI e_)) 6)) rfl dX4_stair_37 ?_
          refine z_put (pc := 40) gX hAX 0 rfl (ci := 4) (C := RX4) (T := TX4) (N := 20) rfl in_X4 tyX4 tyX4_ok nmX4 7 (by decide) q1390 (fun _ h => h) rfl (v := .int ((upd (upd x 5 (nI a_)) 6 (nI e_)) 6)) rfl rfl (Nat.le_of_ble_eq_true rfl) [mOb o ad (upd (upd (upd (upd x 5 (nI a_)) 6 (nI e_)) 1 0) 2 ((upd (upd x 5 (nI a_)) 6 (nI e_)) 6)), [(ad 4, .inl (D.1 100, 90, .inl tp))], [(ad 5, .inl (D.1 100, 25, .inl c))], [(ad 6, .inl (D.1 100, 25, .inl d1_22))]] rfl dX4_stair_40 ?_
          refine z_ldc (pc := 43) gX q1519 dX4_stair_43 ?_
          refine z_aload_n (pc := 45) gX 0 dX4_stair_45 rfl rfl ?_
          refine z_get (pc := 46) gX (zI_ok gX hAX) (zm 0 rfl) (ci := 4) (C := RX4) (T := TX4) (N := 20) rfl in_X4 18 (by decide) q1401 (fun _ h => h) (v := .int ((upd (upd x 5 (nI a_)) 6 (nI e_)) 5)) rfl dX4_stair_46 ?_
          refine z_isub (pc := 49) gX dX4_stair_49 ?_
          exact z_rim gX hQX ((-1000100) - ((upd (upd x 5 (nI a_)) 6 (nI e_)) 5), upd (upd (upd (upd x 5 (nI a_)) 6 (nI e_)) 1 0) 2 ((upd (upd x 5 (nI a_)) 6 (nI e_)) 6), c, d1_22) (mStair_f hp rfl rfl (fun j hj => by rcases (show j = 0 ∨ j = 1 ∨ j = 2 ∨ j = 3 ∨ j = 4 by omega) with rfl | rfl | rfl | rfl | rfl <;> rfl)) rfl rfl (by first | decide | omega) (by first | decide | omega) dX4_stair_50
      · skip
        have k5 : i2 < 25 := (zn_nle (a := 25) (b := i2) (by omega) (by omega)).mp c5
        refine z_aload_n (pc := 8) gX 0 dX4_stair_8 rfl rfl ?_
        refine z_get (pc := 9) gX (zI_ok gX hAX) (zm 0 rfl) (ci := 4) (C := RX4) (T := TX4) (N := 20) rfl in_X4 9 (by decide) q1392 (fun _ h => h) (v := .ref (ad 6)) rfl dX4_stair_9 ?_
        refine z_iload_n (pc := 12) gX 1 dX4_stair_12 rfl rfl ?_
        refine z_iconst (pc := 13) gX 0 dX4_stair_13 (by decide) ?_
        refine z_iast (pc := 14) gX hAX 3 (j := i2) (n := 25) (f := f2) rfl (by omega) (by decide) [mOb o ad x, [(ad 4, .inl (D.1 100, 90, .inl tp))], [(ad 5, .inl (D.1 100, 25, .inl c))], [(ad 6, .inl (D.1 100, 25, .inl (upd f2 i2 0)))]] rfl dX4_stair_14 ?_
        refine z_iinc (pc := 15) gX 1 (nI (i2 + 1)) [1, 0] [(0, .ref o), (1, .int (nI (i2 + 1)))] dX4_stair_15 rfl (nI_1 _) (by decide) rfl ?_
        refine z_goto (pc := 18) gX 2 dX4_stair_18 (by decide) ?_
        exact ih2 (i2 + 1) (upd f2 i2 0) (by omega) (fun q hq => by rcases (show q < i2 ∨ q = i2 by omega) with h | h; exact (pk_un (by omega)).trans (hf2 q h); rw [h, pk_us]) (by omega)
  exact L2 ((25 - 0) + 1) 0 d (by omega) (fun q hq => absurd hq (Nat.not_lt_zero _)) (Nat.lt_succ_self _)
theorem hd_X4_stair : zHd yX4_stair 0 := by unfold zHd; decide +kernel

set_option maxHeartbeats 4000000 in
theorem met_X4_init (l : Launch) (D : va_G) (B0 : Nat) (A : Nat → Prop) (o : Nat)  : Met l yX4_init (ws_ yX4_init cX4_init 2 none) (zRm 2 13 1018) (va_Pc [.ref o] (zPre B0 D A [[(o, .inr (4, [.null, .null, .null, .null, .int 0, .null, .int 0, .int 0, .null, .null, .null, .null, .null, .int 0, .null, .null, .null, .int 0, .int 0, .int 0]))]])) (zQ (S := (Nat → Nat)) (fun u => (fun (ad : Nat → Nat) => True) u) (fun u => (fun (ad : Nat → Nat) => none) u) (fun u => (fun (ad : Nat → Nat) => [mOb o ad (fun _ => 0), [(ad 0, .inl (D.1 100, 8, .inl (fun _ => -1)))], [(ad 1, .inl (D.1 100, 8, .inl (fun _ => 0)))], [(ad 2, .inl (D.1 100, 320, .inl (fun _ => 0)))], [(ad 3, .inl (D.1 100, 40, .inl (fun _ => 0)))], [(ad 4, .inl (D.1 100, 90, .inl (fun _ => 0)))], [(ad 5, .inl (D.1 100, 25, .inl (fun _ => 0)))], [(ad 6, .inl (D.1 100, 25, .inl (fun _ => 0)))], [(ad 7, .inl (D.1 100, 50, .inl (fun _ => 0)))], [(ad 8, .inl (D.1 103, 2, .inl (fun _ => 0)))], [(ad 9, .inl (D.1 100, 384, .inl (fun _ => 0)))], [(ad 10, .inl (D.1 100, 25, .inl (fun _ => 0)))], [(ad 11, .inl (D.1 100, 25, .inl (fun _ => 0)))], [(ad 12, .inl (D.1 100, 16, .inl (fun _ => 0)))]]) u) D A) 13 1018 A := by
  refine z_entry (by decide +kernel) (Nat.le_of_ble_eq_true rfl) (fun pX eX sX mX argsX blX mtX cX QX hQX gX hAX hnm => ?_)
  refine z_eq (lv₂ := [(0, .ref o)]) (st₂ := []) ?_ rfl rfl
  refine z_aload_n (pc := 0) gX 0 dX4_init_0 rfl rfl ?_
  refine z_objInit (pc := 1) gX q1382 q_oi2 q_oi3 dX4_init_1 (Nat.le_of_ble_eq_true rfl) (Nat.le_of_ble_eq_true rfl) ?_
  refine z_aload_n (pc := 4) gX 0 dX4_init_4 rfl rfl ?_
  refine z_bipush (pc := 5) gX 8 dX4_init_5 (by decide) ?_
  refine z_top (nI 8) rfl ?_
  refine z_newa (pc := 7) gX hAX (atype := .int) (ty := .int) 0 rfl rfl (by intro C h; cases h) q190 (8, .inl (fun _ => 0)) (fun _ => rfl) (by first | decide | omega | (simp only [componentBytes]; omega)) (by first | decide | omega | (simp only [componentBytes]; omega)) (by first | decide | (simp only [zRm]; omega)) (by first | decide | (simp only [zRm]; omega)) dX4_init_7 (fun q7 => ?_)
  refine z_norm [[(o, .inr (4, [.null, .null, .null, .null, .int 0, .null, .int 0, .int 0, .null, .null, .null, .null, .null, .int 0, .null, .null, .null, .int 0, .int 0, .int 0]))], [(q7, .inl (D.1 100, 8, .inl (fun _ => 0)))]] 1 8 ?_ rfl (by first | rfl | omega) (by first | rfl | omega)
  refine z_putF (pc := 9) gX hAX hnm 0 rfl (ci := 4) (C := RX4) (T := TX4) (N := 20) rfl in_X4 tyX4 tyX4_ok nmX4 0 (by decide) q1383 (fun _ h => h) rfl rfl (v := .ref q7) rfl rfl (Nat.le_of_ble_eq_true rfl) [[(o, .inr (4, [.ref q7, .null, .null, .null, .int 0, .null, .int 0, .int 0, .null, .null, .null, .null, .null, .int 0, .null, .null, .null, .int 0, .int 0, .int 0]))], [(q7, .inl (D.1 100, 8, .inl (fun _ => 0)))]] rfl dX4_init_9 ?_
  refine z_aload_n (pc := 12) gX 0 dX4_init_12 rfl rfl ?_
  refine z_bipush (pc := 13) gX 8 dX4_init_13 (by decide) ?_
  refine z_top (nI 8) rfl ?_
  refine z_newa (pc := 15) gX hAX (atype := .int) (ty := .int) 0 rfl rfl (by intro C h; cases h) q190 (8, .inl (fun _ => 0)) (fun _ => rfl) (by first | decide | omega | (simp only [componentBytes]; omega)) (by first | decide | omega | (simp only [componentBytes]; omega)) (by first | decide | (simp only [zRm]; omega)) (by first | decide | (simp only [zRm]; omega)) dX4_init_15 (fun q15 => ?_)
  refine z_norm [[(o, .inr (4, [.ref q7, .null, .null, .null, .int 0, .null, .int 0, .int 0, .null, .null, .null, .null, .null, .int 0, .null, .null, .null, .int 0, .int 0, .int 0]))], [(q7, .inl (D.1 100, 8, .inl (fun _ => 0)))], [(q15, .inl (D.1 100, 8, .inl (fun _ => 0)))]] 2 16 ?_ rfl (by first | rfl | omega) (by first | rfl | omega)
  refine z_putF (pc := 17) gX hAX hnm 0 rfl (ci := 4) (C := RX4) (T := TX4) (N := 20) rfl in_X4 tyX4 tyX4_ok nmX4 1 (by decide) q1384 (fun _ h => h) rfl rfl (v := .ref q15) rfl rfl (Nat.le_of_ble_eq_true rfl) [[(o, .inr (4, [.ref q7, .ref q15, .null, .null, .int 0, .null, .int 0, .int 0, .null, .null, .null, .null, .null, .int 0, .null, .null, .null, .int 0, .int 0, .int 0]))], [(q7, .inl (D.1 100, 8, .inl (fun _ => 0)))], [(q15, .inl (D.1 100, 8, .inl (fun _ => 0)))]] rfl dX4_init_17 ?_
  refine z_aload_n (pc := 20) gX 0 dX4_init_20 rfl rfl ?_
  refine z_sipush (pc := 21) gX 320 dX4_init_21 (by decide) ?_
  refine z_top (nI 320) rfl ?_
  refine z_newa (pc := 24) gX hAX (atype := .int) (ty := .int) 0 rfl rfl (by intro C h; cases h) q190 (320, .inl (fun _ => 0)) (fun _ => rfl) (by first | decide | omega | (simp only [componentBytes]; omega)) (by first | decide | omega | (simp only [componentBytes]; omega)) (by first | decide | (simp only [zRm]; omega)) (by first | decide | (simp only [zRm]; omega)) dX4_init_24 (fun q24 => ?_)
  refine z_norm [[(o, .inr (4, [.ref q7, .ref q15, .null, .null, .int 0, .null, .int 0, .int 0, .null, .null, .null, .null, .null, .int 0, .null, .null, .null, .int 0, .int 0, .int 0]))], [(q7, .inl (D.1 100, 8, .inl (fun _ => 0)))], [(q15, .inl (D.1 100, 8, .inl (fun _ => 0)))], [(q24, .inl (D.1 100, 320, .inl (fun _ => 0)))]] 3 336 ?_ rfl (by first | rfl | omega) (by first | rfl | omega)
  refine z_putF (pc := 26) gX hAX hnm 0 rfl (ci := 4) (C := RX4) (T := TX4) (N := 20) rfl in_X4 tyX4 tyX4_ok nmX4 2 (by decide) q1385 (fun _ h => h) rfl rfl (v := .ref q24) rfl rfl (Nat.le_of_ble_eq_true rfl) [[(o, .inr (4, [.ref q7, .ref q15, .ref q24, .null, .int 0, .null, .int 0, .int 0, .null, .null, .null, .null, .null, .int 0, .null, .null, .null, .int 0, .int 0, .int 0]))], [(q7, .inl (D.1 100, 8, .inl (fun _ => 0)))], [(q15, .inl (D.1 100, 8, .inl (fun _ => 0)))], [(q24, .inl (D.1 100, 320, .inl (fun _ => 0)))]] rfl dX4_init_26 ?_
  refine z_aload_n (pc := 29) gX 0 dX4_init_29 rfl rfl ?_
  refine z_bipush (pc := 30) gX 40 dX4_init_30 (by decide) ?_
  refine z_top (nI 40) rfl ?_
  refine z_newa (pc := 32) gX hAX (atype := .int) (ty := .int) 0 rfl rfl (by intro C h; cases h) q190 (40, .inl (fun _ => 0)) (fun _ => rfl) (by first | decide | omega | (simp only [componentBytes]; omega)) (by first | decide | omega | (simp only [componentBytes]; omega)) (by first | decide | (simp only [zRm]; omega)) (by first | decide | (simp only [zRm]; omega)) dX4_init_32 (fun q32 => ?_)
  refine z_norm [[(o, .inr (4, [.ref q7, .ref q15, .ref q24, .null, .int 0, .null, .int 0, .int 0, .null, .null, .null, .null, .null, .int 0, .null, .null, .null, .int 0, .int 0, .int 0]))], [(q7, .inl (D.1 100, 8, .inl (fun _ => 0)))], [(q15, .inl (D.1 100, 8, .inl (fun _ => 0)))], [(q24, .inl (D.1 100, 320, .inl (fun _ => 0)))], [(q32, .inl (D.1 100, 40, .inl (fun _ => 0)))]] 4 376 ?_ rfl (by first | rfl | omega) (by first | rfl | omega)
  refine z_putF (pc := 34) gX hAX hnm 0 rfl (ci := 4) (C := RX4) (T := TX4) (N := 20) rfl in_X4 tyX4 tyX4_ok nmX4 3 (by decide) q1386 (fun _ h => h) rfl rfl (v := .ref q32) rfl rfl (Nat.le_of_ble_eq_true rfl) [[(o, .inr (4, [.ref q7, .ref q15, .ref q24, .ref q32, .int 0, .null, .int 0, .int 0, .null, .null, .null, .null, .null, .int 0, .null, .null, .null, .int 0, .int 0, .int 0]))], [(q7, .inl (D.1 100, 8, .inl (fun _ => 0)))], [(q15, .inl (D.1 100, 8, .inl (fun _ => 0)))], [(q24, .inl (D.1 100, 320, .inl (fun _ => 0)))], [(q32, .inl (D.1 100, 40, .inl (fun _ => 0)))]] rfl dX4_init_34 ?_
  refine z_aload_n (pc := 37) gX 0 dX4_init_37 rfl rfl ?_
  refine z_bipush (pc := 38) gX 90 dX4_init_38 (by decide) ?_
  refine z_top (nI 90) rfl ?_
  refine z_newa (pc := 40) gX hAX (atype := .int) (ty := .int) 0 rfl rfl (by intro C h; cases h) q190 (90, .inl (fun _ => 0)) (fun _ => rfl) (by first | decide | omega | (simp only [componentBytes]; omega)) (by first | decide | omega | (simp only [componentBytes]; omega)) (by first | decide | (simp only [zRm]; omega)) (by first | decide | (simp only [zRm]; omega)) dX4_init_40 (fun q40 => ?_)
  refine z_norm [[(o, .inr (4, [.ref q7, .ref q15, .ref q24, .ref q32, .int 0, .null, .int 0, .int 0, .null, .null, .null, .null, .null, .int 0, .null, .null, .null, .int 0, .int 0, .int 0]))], [(q7, .inl (D.1 100, 8, .inl (fun _ => 0)))], [(q15, .inl (D.1 100, 8, .inl (fun _ => 0)))], [(q24, .inl (D.1 100, 320, .inl (fun _ => 0)))], [(q32, .inl (D.1 100, 40, .inl (fun _ => 0)))], [(q40, .inl (D.1 100, 90, .inl (fun _ => 0)))]] 5 466 ?_ rfl (by first | rfl | omega) (by first | rfl | omega)
  refine z_putF (pc := 42) gX hAX hnm 0 rfl (ci := 4) (C := RX4) (T := TX4) (N := 20) rfl in_X4 tyX4 tyX4_ok nmX4 5 (by decide) q1388 (fun _ h => h) rfl rfl (v := .ref q40) rfl rfl (Nat.le_of_ble_eq_true rfl) [[(o, .inr (4, [.ref q7, .ref q15, .ref q24, .ref q32, .int 0, .ref q40, .int 0, .int 0, .null, .null, .null, .null, .null, .int 0, .null, .null, .null, .int 0, .int 0, .int 0]))], [(q7, .inl (D.1 100, 8, .inl (fun _ => 0)))], [(q15, .inl (D.1 100, 8, .inl (fun _ => 0)))], [(q24, .inl (D.1 100, 320, .inl (fun _ => 0)))], [(q32, .inl (D.1 100, 40, .inl (fun _ => 0)))], [(q40, .inl (D.1 100, 90, .inl (fun _ => 0)))]] rfl dX4_init_42 ?_
  refine z_aload_n (pc := 45) gX 0 dX4_init_45 rfl rfl ?_
  refine z_bipush (pc := 46) gX 25 dX4_init_46 (by decide) ?_
  refine z_top (nI 25) rfl ?_
  refine z_newa (pc := 48) gX hAX (atype := .int) (ty := .int) 0 rfl rfl (by intro C h; cases h) q190 (25, .inl (fun _ => 0)) (fun _ => rfl) (by first | decide | omega | (simp only [componentBytes]; omega)) (by first | decide | omega | (simp only [componentBytes]; omega)) (by first | decide | (simp only [zRm]; omega)) (by first | decide | (simp only [zRm]; omega)) dX4_init_48 (fun q48 => ?_)
  refine z_norm [[(o, .inr (4, [.ref q7, .ref q15, .ref q24, .ref q32, .int 0, .ref q40, .int 0, .int 0, .null, .null, .null, .null, .null, .int 0, .null, .null, .null, .int 0, .int 0, .int 0]))], [(q7, .inl (D.1 100, 8, .inl (fun _ => 0)))], [(q15, .inl (D.1 100, 8, .inl (fun _ => 0)))], [(q24, .inl (D.1 100, 320, .inl (fun _ => 0)))], [(q32, .inl (D.1 100, 40, .inl (fun _ => 0)))], [(q40, .inl (D.1 100, 90, .inl (fun _ => 0)))], [(q48, .inl (D.1 100, 25, .inl (fun _ => 0)))]] 6 491 ?_ rfl (by first | rfl | omega) (by first | rfl | omega)
  refine z_putF (pc := 50) gX hAX hnm 0 rfl (ci := 4) (C := RX4) (T := TX4) (N := 20) rfl in_X4 tyX4 tyX4_ok nmX4 8 (by decide) q1391 (fun _ h => h) rfl rfl (v := .ref q48) rfl rfl (Nat.le_of_ble_eq_true rfl) [[(o, .inr (4, [.ref q7, .ref q15, .ref q24, .ref q32, .int 0, .ref q40, .int 0, .int 0, .ref q48, .null, .null, .null, .null, .int 0, .null, .null, .null, .int 0, .int 0, .int 0]))], [(q7, .inl (D.1 100, 8, .inl (fun _ => 0)))], [(q15, .inl (D.1 100, 8, .inl (fun _ => 0)))], [(q24, .inl (D.1 100, 320, .inl (fun _ => 0)))], [(q32, .inl (D.1 100, 40, .inl (fun _ => 0)))], [(q40, .inl (D.1 100, 90, .inl (fun _ => 0)))], [(q48, .inl (D.1 100, 25, .inl (fun _ => 0)))]] rfl dX4_init_50 ?_
  refine z_aload_n (pc := 53) gX 0 dX4_init_53 rfl rfl ?_
  refine z_bipush (pc := 54) gX 25 dX4_init_54 (by decide) ?_
  refine z_top (nI 25) rfl ?_
  refine z_newa (pc := 56) gX hAX (atype := .int) (ty := .int) 0 rfl rfl (by intro C h; cases h) q190 (25, .inl (fun _ => 0)) (fun _ => rfl) (by first | decide | omega | (simp only [componentBytes]; omega)) (by first | decide | omega | (simp only [componentBytes]; omega)) (by first | decide | (simp only [zRm]; omega)) (by first | decide | (simp only [zRm]; omega)) dX4_init_56 (fun q56 => ?_)
  refine z_norm [[(o, .inr (4, [.ref q7, .ref q15, .ref q24, .ref q32, .int 0, .ref q40, .int 0, .int 0, .ref q48, .null, .null, .null, .null, .int 0, .null, .null, .null, .int 0, .int 0, .int 0]))], [(q7, .inl (D.1 100, 8, .inl (fun _ => 0)))], [(q15, .inl (D.1 100, 8, .inl (fun _ => 0)))], [(q24, .inl (D.1 100, 320, .inl (fun _ => 0)))], [(q32, .inl (D.1 100, 40, .inl (fun _ => 0)))], [(q40, .inl (D.1 100, 90, .inl (fun _ => 0)))], [(q48, .inl (D.1 100, 25, .inl (fun _ => 0)))], [(q56, .inl (D.1 100, 25, .inl (fun _ => 0)))]] 7 516 ?_ rfl (by first | rfl | omega) (by first | rfl | omega)
  refine z_putF (pc := 58) gX hAX hnm 0 rfl (ci := 4) (C := RX4) (T := TX4) (N := 20) rfl in_X4 tyX4 tyX4_ok nmX4 9 (by decide) q1392 (fun _ h => h) rfl rfl (v := .ref q56) rfl rfl (Nat.le_of_ble_eq_true rfl) [[(o, .inr (4, [.ref q7, .ref q15, .ref q24, .ref q32, .int 0, .ref q40, .int 0, .int 0, .ref q48, .ref q56, .null, .null, .null, .int 0, .null, .null, .null, .int 0, .int 0, .int 0]))], [(q7, .inl (D.1 100, 8, .inl (fun _ => 0)))], [(q15, .inl (D.1 100, 8, .inl (fun _ => 0)))], [(q24, .inl (D.1 100, 320, .inl (fun _ => 0)))], [(q32, .inl (D.1 100, 40, .inl (fun _ => 0)))], [(q40, .inl (D.1 100, 90, .inl (fun _ => 0)))], [(q48, .inl (D.1 100, 25, .inl (fun _ => 0)))], [(q56, .inl (D.1 100, 25, .inl (fun _ => 0)))]] rfl dX4_init_58 ?_
  refine z_aload_n (pc := 61) gX 0 dX4_init_61 rfl rfl ?_
  refine z_bipush (pc := 62) gX 50 dX4_init_62 (by decide) ?_
  refine z_top (nI 50) rfl ?_
  refine z_newa (pc := 64) gX hAX (atype := .int) (ty := .int) 0 rfl rfl (by intro C h; cases h) q190 (50, .inl (fun _ => 0)) (fun _ => rfl) (by first | decide | omega | (simp only [componentBytes]; omega)) (by first | decide | omega | (simp only [componentBytes]; omega)) (by first | decide | (simp only [zRm]; omega)) (by first | decide | (simp only [zRm]; omega)) dX4_init_64 (fun q64 => ?_)
  refine z_norm [[(o, .inr (4, [.ref q7, .ref q15, .ref q24, .ref q32, .int 0, .ref q40, .int 0, .int 0, .ref q48, .ref q56, .null, .null, .null, .int 0, .null, .null, .null, .int 0, .int 0, .int 0]))], [(q7, .inl (D.1 100, 8, .inl (fun _ => 0)))], [(q15, .inl (D.1 100, 8, .inl (fun _ => 0)))], [(q24, .inl (D.1 100, 320, .inl (fun _ => 0)))], [(q32, .inl (D.1 100, 40, .inl (fun _ => 0)))], [(q40, .inl (D.1 100, 90, .inl (fun _ => 0)))], [(q48, .inl (D.1 100, 25, .inl (fun _ => 0)))], [(q56, .inl (D.1 100, 25, .inl (fun _ => 0)))], [(q64, .inl (D.1 100, 50, .inl (fun _ => 0)))]] 8 566 ?_ rfl (by first | rfl | omega) (by first | rfl | omega)
  refine z_putF (pc := 66) gX hAX hnm 0 rfl (ci := 4) (C := RX4) (T := TX4) (N := 20) rfl in_X4 tyX4 tyX4_ok nmX4 10 (by decide) q1393 (fun _ h => h) rfl rfl (v := .ref q64) rfl rfl (Nat.le_of_ble_eq_true rfl) [[(o, .inr (4, [.ref q7, .ref q15, .ref q24, .ref q32, .int 0, .ref q40, .int 0, .int 0, .ref q48, .ref q56, .ref q64, .null, .null, .int 0, .null, .null, .null, .int 0, .int 0, .int 0]))], [(q7, .inl (D.1 100, 8, .inl (fun _ => 0)))], [(q15, .inl (D.1 100, 8, .inl (fun _ => 0)))], [(q24, .inl (D.1 100, 320, .inl (fun _ => 0)))], [(q32, .inl (D.1 100, 40, .inl (fun _ => 0)))], [(q40, .inl (D.1 100, 90, .inl (fun _ => 0)))], [(q48, .inl (D.1 100, 25, .inl (fun _ => 0)))], [(q56, .inl (D.1 100, 25, .inl (fun _ => 0)))], [(q64, .inl (D.1 100, 50, .inl (fun _ => 0)))]] rfl dX4_init_66 ?_
  refine z_aload_n (pc := 69) gX 0 dX4_init_69 rfl rfl ?_
  refine z_iconst (pc := 70) gX 2 dX4_init_70 (by decide) ?_
  refine z_top (nI 2) rfl ?_
  refine z_newa (pc := 71) gX hAX (atype := .boolean) (ty := .boolean) 3 rfl rfl (by intro C h; cases h) q1444 (2, .inl (fun _ => 0)) (fun _ => rfl) (by first | decide | omega | (simp only [componentBytes]; omega)) (by first | decide | omega | (simp only [componentBytes]; omega)) (by first | decide | (simp only [zRm]; omega)) (by first | decide | (simp only [zRm]; omega)) dX4_init_71 (fun q71 => ?_)
  refine z_norm [[(o, .inr (4, [.ref q7, .ref q15, .ref q24, .ref q32, .int 0, .ref q40, .int 0, .int 0, .ref q48, .ref q56, .ref q64, .null, .null, .int 0, .null, .null, .null, .int 0, .int 0, .int 0]))], [(q7, .inl (D.1 100, 8, .inl (fun _ => 0)))], [(q15, .inl (D.1 100, 8, .inl (fun _ => 0)))], [(q24, .inl (D.1 100, 320, .inl (fun _ => 0)))], [(q32, .inl (D.1 100, 40, .inl (fun _ => 0)))], [(q40, .inl (D.1 100, 90, .inl (fun _ => 0)))], [(q48, .inl (D.1 100, 25, .inl (fun _ => 0)))], [(q56, .inl (D.1 100, 25, .inl (fun _ => 0)))], [(q64, .inl (D.1 100, 50, .inl (fun _ => 0)))], [(q71, .inl (D.1 103, 2, .inl (fun _ => 0)))]] 9 568 ?_ rfl (by first | rfl | omega) (by first | rfl | omega)
  refine z_putF (pc := 73) gX hAX hnm 0 rfl (ci := 4) (C := RX4) (T := TX4) (N := 20) rfl in_X4 tyX4 tyX4_ok nmX4 11 (by decide) q1394 (fun _ h => h) rfl rfl (v := .ref q71) rfl rfl (Nat.le_of_ble_eq_true rfl) [[(o, .inr (4, [.ref q7, .ref q15, .ref q24, .ref q32, .int 0, .ref q40, .int 0, .int 0, .ref q48, .ref q56, .ref q64, .ref q71, .null, .int 0, .null, .null, .null, .int 0, .int 0, .int 0]))], [(q7, .inl (D.1 100, 8, .inl (fun _ => 0)))], [(q15, .inl (D.1 100, 8, .inl (fun _ => 0)))], [(q24, .inl (D.1 100, 320, .inl (fun _ => 0)))], [(q32, .inl (D.1 100, 40, .inl (fun _ => 0)))], [(q40, .inl (D.1 100, 90, .inl (fun _ => 0)))], [(q48, .inl (D.1 100, 25, .inl (fun _ => 0)))], [(q56, .inl (D.1 100, 25, .inl (fun _ => 0)))], [(q64, .inl (D.1 100, 50, .inl (fun _ => 0)))], [(q71, .inl (D.1 103, 2, .inl (fun _ => 0)))]] rfl dX4_init_73 ?_
  refine z_aload_n (pc := 76) gX 0 dX4_init_76 rfl rfl ?_
  refine z_sipush (pc := 77) gX 384 dX4_init_77 (by decide) ?_
  refine z_top (nI 384) rfl ?_
  refine z_newa (pc := 80) gX hAX (atype := .int) (ty := .int) 0 rfl rfl (by intro C h; cases h) q190 (384, .inl (fun _ => 0)) (fun _ => rfl) (by first | decide | omega | (simp only [componentBytes]; omega)) (by first | decide | omega | (simp only [componentBytes]; omega)) (by first | decide | (simp only [zRm]; omega)) (by first | decide | (simp only [zRm]; omega)) dX4_init_80 (fun q80 => ?_)
  refine z_norm [[(o, .inr (4, [.ref q7, .ref q15, .ref q24, .ref q32, .int 0, .ref q40, .int 0, .int 0, .ref q48, .ref q56, .ref q64, .ref q71, .null, .int 0, .null, .null, .null, .int 0, .int 0, .int 0]))], [(q7, .inl (D.1 100, 8, .inl (fun _ => 0)))], [(q15, .inl (D.1 100, 8, .inl (fun _ => 0)))], [(q24, .inl (D.1 100, 320, .inl (fun _ => 0)))], [(q32, .inl (D.1 100, 40, .inl (fun _ => 0)))], [(q40, .inl (D.1 100, 90, .inl (fun _ => 0)))], [(q48, .inl (D.1 100, 25, .inl (fun _ => 0)))], [(q56, .inl (D.1 100, 25, .inl (fun _ => 0)))], [(q64, .inl (D.1 100, 50, .inl (fun _ => 0)))], [(q71, .inl (D.1 103, 2, .inl (fun _ => 0)))], [(q80, .inl (D.1 100, 384, .inl (fun _ => 0)))]] 10 952 ?_ rfl (by first | rfl | omega) (by first | rfl | omega)
  refine z_putF (pc := 82) gX hAX hnm 0 rfl (ci := 4) (C := RX4) (T := TX4) (N := 20) rfl in_X4 tyX4 tyX4_ok nmX4 12 (by decide) q1395 (fun _ h => h) rfl rfl (v := .ref q80) rfl rfl (Nat.le_of_ble_eq_true rfl) [[(o, .inr (4, [.ref q7, .ref q15, .ref q24, .ref q32, .int 0, .ref q40, .int 0, .int 0, .ref q48, .ref q56, .ref q64, .ref q71, .ref q80, .int 0, .null, .null, .null, .int 0, .int 0, .int 0]))], [(q7, .inl (D.1 100, 8, .inl (fun _ => 0)))], [(q15, .inl (D.1 100, 8, .inl (fun _ => 0)))], [(q24, .inl (D.1 100, 320, .inl (fun _ => 0)))], [(q32, .inl (D.1 100, 40, .inl (fun _ => 0)))], [(q40, .inl (D.1 100, 90, .inl (fun _ => 0)))], [(q48, .inl (D.1 100, 25, .inl (fun _ => 0)))], [(q56, .inl (D.1 100, 25, .inl (fun _ => 0)))], [(q64, .inl (D.1 100, 50, .inl (fun _ => 0)))], [(q71, .inl (D.1 103, 2, .inl (fun _ => 0)))], [(q80, .inl (D.1 100, 384, .inl (fun _ => 0)))]] rfl dX4_init_82 ?_
  refine z_aload_n (pc := 85) gX 0 dX4_init_85 rfl rfl ?_
  refine z_bipush (pc := 86) gX 25 dX4_init_86 (by decide) ?_
  refine z_top (nI 25) rfl ?_
  refine z_newa (pc := 88) gX hAX (atype := .int) (ty := .int) 0 rfl rfl (by intro C h; cases h) q190 (25, .inl (fun _ => 0)) (fun _ => rfl) (by first | decide | omega | (simp only [componentBytes]; omega)) (by first | decide | omega | (simp only [componentBytes]; omega)) (by first | decide | (simp only [zRm]; omega)) (by first | decide | (simp only [zRm]; omega)) dX4_init_88 (fun q88 => ?_)
  refine z_norm [[(o, .inr (4, [.ref q7, .ref q15, .ref q24, .ref q32, .int 0, .ref q40, .int 0, .int 0, .ref q48, .ref q56, .ref q64, .ref q71, .ref q80, .int 0, .null, .null, .null, .int 0, .int 0, .int 0]))], [(q7, .inl (D.1 100, 8, .inl (fun _ => 0)))], [(q15, .inl (D.1 100, 8, .inl (fun _ => 0)))], [(q24, .inl (D.1 100, 320, .inl (fun _ => 0)))], [(q32, .inl (D.1 100, 40, .inl (fun _ => 0)))], [(q40, .inl (D.1 100, 90, .inl (fun _ => 0)))], [(q48, .inl (D.1 100, 25, .inl (fun _ => 0)))], [(q56, .inl (D.1 100, 25, .inl (fun _ => 0)))], [(q64, .inl (D.1 100, 50, .inl (fun _ => 0)))], [(q71, .inl (D.1 103, 2, .inl (fun _ => 0)))], [(q80, .inl (D.1 100, 384, .inl (fun _ => 0)))], [(q88, .inl (D.1 100, 25, .inl (fun _ => 0)))]] 11 977 ?_ rfl (by first | rfl | omega) (by first | rfl | omega)
  refine z_putF (pc := 90) gX hAX hnm 0 rfl (ci := 4) (C := RX4) (T := TX4) (N := 20) rfl in_X4 tyX4 tyX4_ok nmX4 14 (by decide) q1397 (fun _ h => h) rfl rfl (v := .ref q88) rfl rfl (Nat.le_of_ble_eq_true rfl) [[(o, .inr (4, [.ref q7, .ref q15, .ref q24, .ref q32, .int 0, .ref q40, .int 0, .int 0, .ref q48, .ref q56, .ref q64, .ref q71, .ref q80, .int 0, .ref q88, .null, .null, .int 0, .int 0, .int 0]))], [(q7, .inl (D.1 100, 8, .inl (fun _ => 0)))], [(q15, .inl (D.1 100, 8, .inl (fun _ => 0)))], [(q24, .inl (D.1 100, 320, .inl (fun _ => 0)))], [(q32, .inl (D.1 100, 40, .inl (fun _ => 0)))], [(q40, .inl (D.1 100, 90, .inl (fun _ => 0)))], [(q48, .inl (D.1 100, 25, .inl (fun _ => 0)))], [(q56, .inl (D.1 100, 25, .inl (fun _ => 0)))], [(q64, .inl (D.1 100, 50, .inl (fun _ => 0)))], [(q71, .inl (D.1 103, 2, .inl (fun _ => 0)))], [(q80, .inl (D.1 100, 384, .inl (fun _ => 0)))], [(q88, .inl (D.1 100, 25, .inl (fun _ => 0)))]] rfl dX4_init_90 ?_
  refine z_aload_n (pc := 93) gX 0 dX4_init_93 rfl rfl ?_
  refine z_bipush (pc := 94) gX 25 dX4_init_94 (by decide) ?_
  refine z_top (nI 25) rfl ?_
  refine z_newa (pc := 96) gX hAX (atype := .int) (ty := .int) 0 rfl rfl (by intro C h; cases h) q190 (25, .inl (fun _ => 0)) (fun _ => rfl) (by first | decide | omega | (simp only [componentBytes]; omega)) (by first | decide | omega | (simp only [componentBytes]; omega)) (by first | decide | (simp only [zRm]; omega)) (by first | decide | (simp only [zRm]; omega)) dX4_init_96 (fun q96 => ?_)
  refine z_norm [[(o, .inr (4, [.ref q7, .ref q15, .ref q24, .ref q32, .int 0, .ref q40, .int 0, .int 0, .ref q48, .ref q56, .ref q64, .ref q71, .ref q80, .int 0, .ref q88, .null, .null, .int 0, .int 0, .int 0]))], [(q7, .inl (D.1 100, 8, .inl (fun _ => 0)))], [(q15, .inl (D.1 100, 8, .inl (fun _ => 0)))], [(q24, .inl (D.1 100, 320, .inl (fun _ => 0)))], [(q32, .inl (D.1 100, 40, .inl (fun _ => 0)))], [(q40, .inl (D.1 100, 90, .inl (fun _ => 0)))], [(q48, .inl (D.1 100, 25, .inl (fun _ => 0)))], [(q56, .inl (D.1 100, 25, .inl (fun _ => 0)))], [(q64, .inl (D.1 100, 50, .inl (fun _ => 0)))], [(q71, .inl (D.1 103, 2, .inl (fun _ => 0)))], [(q80, .inl (D.1 100, 384, .inl (fun _ => 0)))], [(q88, .inl (D.1 100, 25, .inl (fun _ => 0)))], [(q96, .inl (D.1 100, 25, .inl (fun _ => 0)))]] 12 1002 ?_ rfl (by first | rfl | omega) (by first | rfl | omega)
  refine z_putF (pc := 98) gX hAX hnm 0 rfl (ci := 4) (C := RX4) (T := TX4) (N := 20) rfl in_X4 tyX4 tyX4_ok nmX4 15 (by decide) q1398 (fun _ h => h) rfl rfl (v := .ref q96) rfl rfl (Nat.le_of_ble_eq_true rfl) [[(o, .inr (4, [.ref q7, .ref q15, .ref q24, .ref q32, .int 0, .ref q40, .int 0, .int 0, .ref q48, .ref q56, .ref q64, .ref q71, .ref q80, .int 0, .ref q88, .ref q96, .null, .int 0, .int 0, .int 0]))], [(q7, .inl (D.1 100, 8, .inl (fun _ => 0)))], [(q15, .inl (D.1 100, 8, .inl (fun _ => 0)))], [(q24, .inl (D.1 100, 320, .inl (fun _ => 0)))], [(q32, .inl (D.1 100, 40, .inl (fun _ => 0)))], [(q40, .inl (D.1 100, 90, .inl (fun _ => 0)))], [(q48, .inl (D.1 100, 25, .inl (fun _ => 0)))], [(q56, .inl (D.1 100, 25, .inl (fun _ => 0)))], [(q64, .inl (D.1 100, 50, .inl (fun _ => 0)))], [(q71, .inl (D.1 103, 2, .inl (fun _ => 0)))], [(q80, .inl (D.1 100, 384, .inl (fun _ => 0)))], [(q88, .inl (D.1 100, 25, .inl (fun _ => 0)))], [(q96, .inl (D.1 100, 25, .inl (fun _ => 0)))]] rfl dX4_init_98 ?_
  refine z_aload_n (pc := 101) gX 0 dX4_init_101 rfl rfl ?_
  refine z_bipush (pc := 102) gX 16 dX4_init_102 (by decide) ?_
  refine z_top (nI 16) rfl ?_
  refine z_newa (pc := 104) gX hAX (atype := .int) (ty := .int) 0 rfl rfl (by intro C h; cases h) q190 (16, .inl (fun _ => 0)) (fun _ => rfl) (by first | decide | omega | (simp only [componentBytes]; omega)) (by first | decide | omega | (simp only [componentBytes]; omega)) (by first | decide | (simp only [zRm]; omega)) (by first | decide | (simp only [zRm]; omega)) dX4_init_104 (fun q104 => ?_)
  refine z_norm [[(o, .inr (4, [.ref q7, .ref q15, .ref q24, .ref q32, .int 0, .ref q40, .int 0, .int 0, .ref q48, .ref q56, .ref q64, .ref q71, .ref q80, .int 0, .ref q88, .ref q96, .null, .int 0, .int 0, .int 0]))], [(q7, .inl (D.1 100, 8, .inl (fun _ => 0)))], [(q15, .inl (D.1 100, 8, .inl (fun _ => 0)))], [(q24, .inl (D.1 100, 320, .inl (fun _ => 0)))], [(q32, .inl (D.1 100, 40, .inl (fun _ => 0)))], [(q40, .inl (D.1 100, 90, .inl (fun _ => 0)))], [(q48, .inl (D.1 100, 25, .inl (fun _ => 0)))], [(q56, .inl (D.1 100, 25, .inl (fun _ => 0)))], [(q64, .inl (D.1 100, 50, .inl (fun _ => 0)))], [(q71, .inl (D.1 103, 2, .inl (fun _ => 0)))], [(q80, .inl (D.1 100, 384, .inl (fun _ => 0)))], [(q88, .inl (D.1 100, 25, .inl (fun _ => 0)))], [(q96, .inl (D.1 100, 25, .inl (fun _ => 0)))], [(q104, .inl (D.1 100, 16, .inl (fun _ => 0)))]] 13 1018 ?_ rfl (by first | rfl | omega) (by first | rfl | omega)
  refine z_putF (pc := 106) gX hAX hnm 0 rfl (ci := 4) (C := RX4) (T := TX4) (N := 20) rfl in_X4 tyX4 tyX4_ok nmX4 16 (by decide) q1399 (fun _ h => h) rfl rfl (v := .ref q104) rfl rfl (Nat.le_of_ble_eq_true rfl) [[(o, .inr (4, [.ref q7, .ref q15, .ref q24, .ref q32, .int 0, .ref q40, .int 0, .int 0, .ref q48, .ref q56, .ref q64, .ref q71, .ref q80, .int 0, .ref q88, .ref q96, .ref q104, .int 0, .int 0, .int 0]))], [(q7, .inl (D.1 100, 8, .inl (fun _ => 0)))], [(q15, .inl (D.1 100, 8, .inl (fun _ => 0)))], [(q24, .inl (D.1 100, 320, .inl (fun _ => 0)))], [(q32, .inl (D.1 100, 40, .inl (fun _ => 0)))], [(q40, .inl (D.1 100, 90, .inl (fun _ => 0)))], [(q48, .inl (D.1 100, 25, .inl (fun _ => 0)))], [(q56, .inl (D.1 100, 25, .inl (fun _ => 0)))], [(q64, .inl (D.1 100, 50, .inl (fun _ => 0)))], [(q71, .inl (D.1 103, 2, .inl (fun _ => 0)))], [(q80, .inl (D.1 100, 384, .inl (fun _ => 0)))], [(q88, .inl (D.1 100, 25, .inl (fun _ => 0)))], [(q96, .inl (D.1 100, 25, .inl (fun _ => 0)))], [(q104, .inl (D.1 100, 16, .inl (fun _ => 0)))]] rfl dX4_init_106 ?_
  refine z_iconst (pc := 109) gX 0 dX4_init_109 (by decide) ?_
  refine z_istore_n (pc := 110) gX [1, 0] [(0, .ref o), (1, .int 0)] dX4_init_110 rfl (by decide) rfl ?_
  have L111 : ∀ (n111 : Nat) (i : Nat) (f : Nat → Int32), (i ≤ 8) → (∀ q, q < i → f q = -1) → 8 - i < n111 → zJ pX l eX (zRm 2 13 1018) sX mX argsX blX mtX cX QX 2 (zI D A sX [[(o, .inr (4, [.ref q7, .ref q15, .ref q24, .ref q32, .int 0, .ref q40, .int 0, .int 0, .ref q48, .ref q56, .ref q64, .ref q71, .ref q80, .int 0, .ref q88, .ref q96, .ref q104, .int 0, .int 0, .int 0]))], [(q7, .inl (D.1 100, 8, .inl f))], [(q15, .inl (D.1 100, 8, .inl (fun _ => 0)))], [(q24, .inl (D.1 100, 320, .inl (fun _ => 0)))], [(q32, .inl (D.1 100, 40, .inl (fun _ => 0)))], [(q40, .inl (D.1 100, 90, .inl (fun _ => 0)))], [(q48, .inl (D.1 100, 25, .inl (fun _ => 0)))], [(q56, .inl (D.1 100, 25, .inl (fun _ => 0)))], [(q64, .inl (D.1 100, 50, .inl (fun _ => 0)))], [(q71, .inl (D.1 103, 2, .inl (fun _ => 0)))], [(q80, .inl (D.1 100, 384, .inl (fun _ => 0)))], [(q88, .inl (D.1 100, 25, .inl (fun _ => 0)))], [(q96, .inl (D.1 100, 25, .inl (fun _ => 0)))], [(q104, .inl (D.1 100, 16, .inl (fun _ => 0)))]]) 13 1018 111 [(0, .ref o), (1, .int (nI i))] [] := by
    intro n111
    induction n111 with
    | zero => exact fun i f hi hf hm111 => absurd hm111 (Nat.not_lt_zero _)
    | succ n111 ih111 =>
      intro i f hi hf hm111
      refine z_iload_n (pc := 111) gX 1 dX4_init_111 rfl rfl ?_
      refine z_bipush (pc := 112) gX 8 dX4_init_112 (by decide) ?_
      refine z_icmp_ge (pc := 114) gX 130 dX4_init_114 (by decide) (fun c114 => ?_) (fun c114 => ?_)
      · skip
        have k114 : 8 ≤ i := (zn_le (a := 8) (b := i) (by omega) (by omega)).mp c114
        refine z_ext 1 (fun _ => -1) rfl (fun q hq => hf q (by omega)) [[(o, .inr (4, [.ref q7, .ref q15, .ref q24, .ref q32, .int 0, .ref q40, .int 0, .int 0, .ref q48, .ref q56, .ref q64, .ref q71, .ref q80, .int 0, .ref q88, .ref q96, .ref q104, .int 0, .int 0, .int 0]))], [(q7, .inl (D.1 100, 8, .inl (fun _ => -1)))], [(q15, .inl (D.1 100, 8, .inl (fun _ => 0)))], [(q24, .inl (D.1 100, 320, .inl (fun _ => 0)))], [(q32, .inl (D.1 100, 40, .inl (fun _ => 0)))], [(q40, .inl (D.1 100, 90, .inl (fun _ => 0)))], [(q48, .inl (D.1 100, 25, .inl (fun _ => 0)))], [(q56, .inl (D.1 100, 25, .inl (fun _ => 0)))], [(q64, .inl (D.1 100, 50, .inl (fun _ => 0)))], [(q71, .inl (D.1 103, 2, .inl (fun _ => 0)))], [(q80, .inl (D.1 100, 384, .inl (fun _ => 0)))], [(q88, .inl (D.1 100, 25, .inl (fun _ => 0)))], [(q96, .inl (D.1 100, 25, .inl (fun _ => 0)))], [(q104, .inl (D.1 100, 16, .inl (fun _ => 0)))]] rfl ?_
        exact z_vret gX hQX (fun k => [q7, q15, q24, q32, q40, q48, q56, q64, q71, q80, q88, q96, q104].getD k 0) trivial rfl rfl (by first | decide | omega) (by first | decide | omega) dX4_init_130
      · skip
        have k114 : i < 8 := (zn_nle (a := 8) (b := i) (by omega) (by omega)).mp c114
        refine z_aload_n (pc := 117) gX 0 dX4_init_117 rfl rfl ?_
        refine z_get (pc := 118) gX (zI_ok gX hAX) (zm 0 rfl) (ci := 4) (C := RX4) (T := TX4) (N := 20) rfl in_X4 0 (by decide) q1383 (fun _ h => h) (v := .ref q7) rfl dX4_init_118 ?_
        refine z_iload_n (pc := 121) gX 1 dX4_init_121 rfl rfl ?_
        refine z_iconst (pc := 122) gX (-1) dX4_init_122 (by decide) ?_
        refine z_iast (pc := 123) gX hAX 1 (j := i) (n := 8) (f := f) rfl (by omega) (by decide) [[(o, .inr (4, [.ref q7, .ref q15, .ref q24, .ref q32, .int 0, .ref q40, .int 0, .int 0, .ref q48, .ref q56, .ref q64, .ref q71, .ref q80, .int 0, .ref q88, .ref q96, .ref q104, .int 0, .int 0, .int 0]))], [(q7, .inl (D.1 100, 8, .inl (upd f i (-1))))], [(q15, .inl (D.1 100, 8, .inl (fun _ => 0)))], [(q24, .inl (D.1 100, 320, .inl (fun _ => 0)))], [(q32, .inl (D.1 100, 40, .inl (fun _ => 0)))], [(q40, .inl (D.1 100, 90, .inl (fun _ => 0)))], [(q48, .inl (D.1 100, 25, .inl (fun _ => 0)))], [(q56, .inl (D.1 100, 25, .inl (fun _ => 0)))], [(q64, .inl (D.1 100, 50, .inl (fun _ => 0)))], [(q71, .inl (D.1 103, 2, .inl (fun _ => 0)))], [(q80, .inl (D.1 100, 384, .inl (fun _ => 0)))], [(q88, .inl (D.1 100, 25, .inl (fun _ => 0)))], [(q96, .inl (D.1 100, 25, .inl (fun _ => 0)))], [(q104, .inl (D.1 100, 16, .inl (fun _ => 0)))]] rfl dX4_init_123 ?_
        refine z_iinc (pc := 124) gX 1 (nI (i + 1)) [1, 0] [(0, .ref o), (1, .int (nI (i + 1)))] dX4_init_124 rfl (nI_1 _) (by decide) rfl ?_
        refine z_goto (pc := 127) gX 111 dX4_init_127 (by decide) ?_
        exact ih111 (i + 1) (upd f i (-1)) (by omega) (fun q hq => by rcases (show q < i ∨ q = i by omega) with h | h; exact (pk_un (by omega)).trans (hf q h); rw [h, pk_us]) (by omega)
  exact L111 ((8 - 0) + 1) 0 (fun _ => 0) (by omega) (fun q hq => absurd hq (Nat.not_lt_zero _)) (Nat.lt_succ_self _)
theorem hd_X4_init : zHd yX4_init 0 := by unfold zHd; decide +kernel

