set_option maxRecDepth 100000
/-! THE REFERENCE: texts -/
/-- the letter at a place, -1 beyond -/
def ltA (tp : Nat → Int32) (t i : Nat) : Int32 := if i < t then tp i else -1
def isDg (v : Int32) : Bool := mIn v 48 57
def sB {E A B : Type} (s : E ⊕ A) (f : A → E ⊕ B) : E ⊕ B := match s with
  | .inl e => .inl e
  | .inr a => f a
abbrev PS : Type := Nat × (Nat → Int32)
abbrev PE : Type := Nat × Nat
def pSign (tp : Nat → Int32) (t : Nat) (v : Int32) (s : PS) : PE ⊕ PS := if ltA tp t s.1 = v then .inr (s.1 + 1, s.2) else .inl (1, s.1)
def dgF (tp : Nat → Int32) (t : Nat) : Nat → Nat → Nat
  | 0, _ => 0
  | m + 1, i => if isDg (ltA tp t i) = true then 1 + dgF tp t m (i + 1) else 0
def numV (tp : Nat → Int32) (i : Nat) : Nat → Int32
  | 0 => 0
  | m + 1 => 10 * numV tp i m + tp (i + m) - 48
def pNum (tp : Nat → Int32) (t : Nat) (pl : Nat) (lo hi : Int32) (s : PS) : PE ⊕ PS :=
  if dgF tp t 3 s.1 = 0 ∨ dgF tp t 3 s.1 = 3 then .inl (1, s.1)
  else if mIn (numV tp s.1 (dgF tp t 3 s.1)) lo hi = true then .inr (s.1 + dgF tp t 3 s.1, upd s.2 pl (numV tp s.1 (dgF tp t 3 s.1)))
  else .inl (2, s.1)
def mKindB (v : Int32) : Int32 := if v = 115 then 1 else if v = 119 then 2 else if v = 114 then 3 else if v = 116 then 4 else if v = 99 then 5 else 0
/-- a rider more, m of them being there -/
def pRid (tp : Nat → Int32) (t m : Nat) (s : PS) : PE ⊕ PS :=
  if mKindB (ltA tp t s.1) = 0 then .inl (1, s.1)
  else if m = 7 then .inl (3, s.1)
  else sB (pNum tp t (9 + m) 0 1 (s.1 + 1, upd (upd s.2 (18 + m) (mKindB (ltA tp t s.1))) (2 + m) (-1))) fun s => sB (pSign tp t 59 s) fun s => .inr (s.1, upd s.2 17 (s.2 17 + 1))
def pLoop (tp : Nat → Int32) (t : Nat) : Nat → Nat → PS → PE ⊕ PS
  | 0, _, s => .inr s
  | f + 1, m, s => if s.1 < t ∨ m = 0 then sB (pRid tp t m s) (pLoop tp t f (m + 1)) else .inr s
def pAll (tp : Nat → Int32) (t : Nat) (d : Nat → Int32) : PE ⊕ PS :=
  sB (pSign tp t 109 (0, d)) fun s => sB (pNum tp t 16 4 12 s) fun s => sB (pSign tp t 44 s) fun s => sB (pNum tp t 1 0 2 s) fun s => sB (pSign tp t 59 s) fun s => pLoop tp t 8 0 s
theorem dgF_s {tp : Nat → Int32} {t i a : Nat} (h : i < 3) : dgF tp t (3 - i) (a + i) = if isDg (ltA tp t (a + i)) = true then 1 + dgF tp t (3 - (i + 1)) (a + (i + 1)) else 0 := by
  rw [show 3 - i = (3 - (i + 1)) + 1 by omega]; rfl
theorem dg_in {tp : Nat → Int32} {t i : Nat} (h : isDg (ltA tp t i) = true) : i < t := by
  simp only [ltA] at h
  split at h
  · assumption
  · exact absurd h (by decide)
def mSign (tp : Nat → Int32) (t at_ : Nat) (x : Nat → Int32) (v : Int32) : Bool × (Nat → Int32) := if ltA tp t at_ = v then (true, upd x 5 (nI (at_ + 1))) else (false, upd x 6 1)
def mNumb (tp : Nat → Int32) (t at_ : Nat) (x d : Nat → Int32) (pl : Nat) (lo hi : Int32) : Bool × (Nat → Int32) × (Nat → Int32) := match pNum tp t pl lo hi (at_, d) with
  | .inl e => (false, upd x 6 (nI e.1), d)
  | .inr s => (true, upd x 5 (nI s.1), s.2)

set_option maxHeartbeats 4000000 in
theorem met_X4_letterAt (l : Launch) (D : va_G) (B0 : Nat) (o : Nat) (ad : Nat → Nat) (x : Nat → Int32) (tp : Nat → Int32) (t : Nat) (i : Nat) (hty : x 1 = nI t) (ht90 : t ≤ 90) (hi : i < 1000) : Met l yX4_letterAt (ws_ yX4_letterAt cX4_letterAt 2 (some .int)) (zRm 1 0 0) (va_Pc [.ref o, .int (nI i)] (zPreO B0 D [mOb o ad x, [(ad 4, .inl (D.1 100, 90, .inl tp))]])) (zQo (S := Unit) (fun _ => True) (fun _ => some (.int (ltA tp t i)))) 0 0 (fun _ => False) := by
  refine z_entryo (by decide +kernel) (Nat.le_of_ble_eq_true rfl) (fun pX eX sX mX argsX blX mtX cX QX hQX gX => ?_)
  refine z_eq (lv₂ := [(0, .ref o), (1, .int (nI i))]) (st₂ := []) ?_ rfl rfl
  refine z_iload_n (pc := 0) gX 1 dX4_letterAt_0 rfl rfl ?_
  refine z_aload_n (pc := 1) gX 0 dX4_letterAt_1 rfl rfl ?_
  refine z_get (pc := 2) gX (zIo_ok gX) (zm 0 rfl) (ci := 4) (C := RX4) (T := TX4) (N := 20) rfl in_X4 6 (by decide) q1389 (fun _ h => h) (v := .int (x 1)) rfl dX4_letterAt_2 ?_
  refine z_top (nI t) hty ?_
  refine z_icmp_ge (pc := 5) gX 17 dX4_letterAt_5 (by decide) (fun c5 => ?_) (fun c5 => ?_)
  · skip
    have k5 : t ≤ i := (zn_le (a := t) (b := i) (by omega) (by omega)).mp c5
    refine z_iconst (pc := 17) gX (-1) dX4_letterAt_17 (by decide) ?_
    exact z_rio gX hQX (by simp only [ltA]; first | (rw [if_pos k5]; done) | (rw [if_neg (by omega)]; done)) dX4_letterAt_18
  · skip
    have k5 : i < t := (zn_nle (a := t) (b := i) (by omega) (by omega)).mp c5
    refine z_aload_n (pc := 8) gX 0 dX4_letterAt_8 rfl rfl ?_
    refine z_get (pc := 9) gX (zIo_ok gX) (zm 0 rfl) (ci := 4) (C := RX4) (T := TX4) (N := 20) rfl in_X4 5 (by decide) q1388 (fun _ h => h) (v := .ref (ad 4)) rfl dX4_letterAt_9 ?_
    refine z_iload_n (pc := 12) gX 1 dX4_letterAt_12 rfl rfl ?_
    refine z_iald (pc := 13) gX (zIo_ok gX) (j := i) (n := 90) (f := tp) (zm 1 rfl) (by omega) (by decide) dX4_letterAt_13 ?_
    refine z_goto (pc := 14) gX 18 dX4_letterAt_14 (by decide) ?_
    exact z_rio gX hQX (by simp only [ltA]; first | (rw [if_pos k5]; done) | (rw [if_neg (by omega)]; done)) dX4_letterAt_18
theorem hd_X4_letterAt : zHd yX4_letterAt 1 := by unfold zHd; decide +kernel

set_option maxHeartbeats 4000000 in
theorem met_X4_isDigit (l : Launch) (D : va_G) (B0 : Nat) (v : Int32)  : Met l yX4_isDigit (ws_ yX4_isDigit cX4_isDigit 1 (some .boolean)) (zRm 2 0 0) (va_Pc [.int v] (zPreO B0 D [])) (zQo (S := Unit) (fun _ => True) (fun _ => some (.int (bI (isDg v))))) 0 0 (fun _ => False) := by
  refine z_entryo (by decide +kernel) (Nat.le_of_ble_eq_true rfl) (fun pX eX sX mX argsX blX mtX cX QX hQX gX => ?_)
  refine z_eq (lv₂ := [(0, .int v)]) (st₂ := []) ?_ rfl rfl
  refine z_iload_n (pc := 0) gX 0 dX4_isDigit_0 rfl rfl ?_
  refine z_bipush (pc := 1) gX 48 dX4_isDigit_1 (by decide) ?_
  refine z_bipush (pc := 3) gX 57 dX4_isDigit_3 (by decide) ?_
  refine z_cOS (pc := 5) gX (zIo_ok gX) [.int v, .int 48, .int 57] [] [] (met_X4_in l D B0 v 48 57 ) q1452 q1453 q54 q1454 hd_X4_in ⟨rfl, rfl⟩ ⟨(Nat.le_of_ble_eq_true rfl), (Nat.le_of_ble_eq_true rfl)⟩ rfl rfl rfl (Nat.le_of_ble_eq_true rfl) ⟨(Nat.le_of_ble_eq_true rfl), (Nat.le_of_ble_eq_true rfl)⟩ dX4_isDigit_5 ?_
  intro _ hu5
  refine z_eq (lv₂ := [(0, .int v)]) (st₂ := [.int (bI (mIn v 48 57))]) ?_ rfl rfl
  exact z_rzo gX hQX rfl dX4_isDigit_8
theorem hd_X4_isDigit : zHd yX4_isDigit 1 := by unfold zHd; decide +kernel

set_option maxHeartbeats 4000000 in
theorem met_X4_fails (l : Launch) (D : va_G) (B0 : Nat) (A : Nat → Prop) (o : Nat) (ad : Nat → Nat) (x : Nat → Int32) (e : Int32)  : Met l yX4_fails (ws_ yX4_fails cX4_fails 2 (some .boolean)) (zRm 1 0 0) (va_Pc [.ref o, .int e] (zPre B0 D A [mOb o ad x])) (zQ (S := Unit) (fun _ => True) (fun _ => some (.int (bI false))) (fun _ => [mOb o ad (upd x 6 e)]) D A) 0 0 A := by
  refine z_entry (by decide +kernel) (Nat.le_of_ble_eq_true rfl) (fun pX eX sX mX argsX blX mtX cX QX hQX gX hAX hnm => ?_)
  refine z_eq (lv₂ := [(0, .ref o), (1, .int e)]) (st₂ := []) ?_ rfl rfl
  refine z_aload_n (pc := 0) gX 0 dX4_fails_0 rfl rfl ?_
  refine z_iload_n (pc := 1) gX 1 dX4_fails_1 rfl rfl ?_
  refine z_put (pc := 2) gX hAX 0 rfl (ci := 4) (C := RX4) (T := TX4) (N := 20) rfl in_X4 tyX4 tyX4_ok nmX4 19 (by decide) q1402 (fun _ h => h) rfl (v := .int e) rfl rfl (Nat.le_of_ble_eq_true rfl) [mOb o ad (upd x 6 e)] rfl dX4_fails_2 ?_
  refine z_iconst (pc := 5) gX 0 dX4_fails_5 (by decide) ?_
  exact z_rzm gX hQX () trivial (zbv rfl) rfl (by first | decide | omega) (by first | decide | omega) dX4_fails_6
theorem hd_X4_fails : zHd yX4_fails 1 := by unfold zHd; decide +kernel

set_option maxHeartbeats 4000000 in
theorem met_X4_kindBy (l : Launch) (D : va_G) (B0 : Nat) (v : Int32)  : Met l yX4_kindBy (ws_ yX4_kindBy cX4_kindBy 1 (some .int)) (zRm 1 0 0) (va_Pc [.int v] (zPreO B0 D [])) (zQo (S := Unit) (fun _ => True) (fun _ => some (.int (mKindB v)))) 0 0 (fun _ => False) := by
  refine z_entryo (by decide +kernel) (Nat.le_of_ble_eq_true rfl) (fun pX eX sX mX argsX blX mtX cX QX hQX gX => ?_)
  refine z_eq (lv₂ := [(0, .int v)]) (st₂ := []) ?_ rfl rfl
  refine z_iload_n (pc := 0) gX 0 dX4_kindBy_0 rfl rfl ?_
  refine z_bipush (pc := 1) gX 115 dX4_kindBy_1 (by decide) ?_
  refine z_icmp_ne (pc := 3) gX 10 dX4_kindBy_3 (by decide) (fun c3 => ?_) (fun c3 => ?_)
  · skip
    refine z_iload_n (pc := 10) gX 0 dX4_kindBy_10 rfl rfl ?_
    refine z_bipush (pc := 11) gX 119 dX4_kindBy_11 (by decide) ?_
    refine z_icmp_ne (pc := 13) gX 20 dX4_kindBy_13 (by decide) (fun c13 => ?_) (fun c13 => ?_)
    · skip
      refine z_iload_n (pc := 20) gX 0 dX4_kindBy_20 rfl rfl ?_
      refine z_bipush (pc := 21) gX 114 dX4_kindBy_21 (by decide) ?_
      refine z_icmp_ne (pc := 23) gX 30 dX4_kindBy_23 (by decide) (fun c23 => ?_) (fun c23 => ?_)
      · skip
        refine z_iload_n (pc := 30) gX 0 dX4_kindBy_30 rfl rfl ?_
        refine z_bipush (pc := 31) gX 116 dX4_kindBy_31 (by decide) ?_
        refine z_icmp_ne (pc := 33) gX 40 dX4_kindBy_33 (by decide) (fun c33 => ?_) (fun c33 => ?_)
        · skip
          refine z_iload_n (pc := 40) gX 0 dX4_kindBy_40 rfl rfl ?_
          refine z_bipush (pc := 41) gX 99 dX4_kindBy_41 (by decide) ?_
          refine z_icmp_ne (pc := 43) gX 50 dX4_kindBy_43 (by decide) (fun c43 => ?_) (fun c43 => ?_)
          · skip
            refine z_iconst (pc := 50) gX 0 dX4_kindBy_50 (by decide) ?_
            exact z_rio gX hQX (by simp [mKindB, c3, c13, c23, c33, c43]) dX4_kindBy_51
          · skip
            refine z_iconst (pc := 46) gX 5 dX4_kindBy_46 (by decide) ?_
            refine z_goto (pc := 47) gX 51 dX4_kindBy_47 (by decide) ?_
            exact z_rio gX hQX (by simp [mKindB, c3, c13, c23, c33, c43]) dX4_kindBy_51
        · skip
          refine z_iconst (pc := 36) gX 4 dX4_kindBy_36 (by decide) ?_
          refine z_goto (pc := 37) gX 51 dX4_kindBy_37 (by decide) ?_
          exact z_rio gX hQX (by simp [mKindB, c3, c13, c23, c33]) dX4_kindBy_51
      · skip
        refine z_iconst (pc := 26) gX 3 dX4_kindBy_26 (by decide) ?_
        refine z_goto (pc := 27) gX 51 dX4_kindBy_27 (by decide) ?_
        exact z_rio gX hQX (by simp [mKindB, c3, c13, c23]) dX4_kindBy_51
    · skip
      refine z_iconst (pc := 16) gX 2 dX4_kindBy_16 (by decide) ?_
      refine z_goto (pc := 17) gX 51 dX4_kindBy_17 (by decide) ?_
      exact z_rio gX hQX (by simp [mKindB, c3, c13]) dX4_kindBy_51
  · skip
    refine z_iconst (pc := 6) gX 1 dX4_kindBy_6 (by decide) ?_
    refine z_goto (pc := 7) gX 51 dX4_kindBy_7 (by decide) ?_
    exact z_rio gX hQX (by simp [mKindB, c3]) dX4_kindBy_51
theorem hd_X4_kindBy : zHd yX4_kindBy 1 := by unfold zHd; decide +kernel

set_option maxHeartbeats 4000000 in
theorem met_X4_sign (l : Launch) (D : va_G) (B0 : Nat) (A : Nat → Prop) (o : Nat) (ad : Nat → Nat) (x : Nat → Int32) (tp : Nat → Int32) (t : Nat) (at_ : Nat) (v : Int32) (hty : x 1 = nI t) (ht90 : t ≤ 90) (hat : x 5 = nI at_) (ha100 : at_ ≤ 100) : Met l yX4_sign (ws_ yX4_sign cX4_sign 2 (some .boolean)) (zRm 2 0 0) (va_Pc [.ref o, .int v] (zPre B0 D A [mOb o ad x, [(ad 4, .inl (D.1 100, 90, .inl tp))]])) (zQ (S := Bool × (Nat → Int32)) (fun u => (fun (b : Bool) (x1 : Nat → Int32) => (b, x1) = mSign tp t at_ x v) u.1 u.2) (fun u => (fun (b : Bool) (x1 : Nat → Int32) => some (.int (bI b))) u.1 u.2) (fun u => (fun (b : Bool) (x1 : Nat → Int32) => [mOb o ad x1, [(ad 4, .inl (D.1 100, 90, .inl tp))]]) u.1 u.2) D A) 0 0 A := by
  refine z_entry (by decide +kernel) (Nat.le_of_ble_eq_true rfl) (fun pX eX sX mX argsX blX mtX cX QX hQX gX hAX hnm => ?_)
  refine z_eq (lv₂ := [(0, .ref o), (1, .int v)]) (st₂ := []) ?_ rfl rfl
  refine z_aload_n (pc := 0) gX 0 dX4_sign_0 rfl rfl ?_
  refine z_aload_n (pc := 1) gX 0 dX4_sign_1 rfl rfl ?_
  refine z_get (pc := 2) gX (zI_ok gX hAX) (zm 0 rfl) (ci := 4) (C := RX4) (T := TX4) (N := 20) rfl in_X4 18 (by decide) q1401 (fun _ h => h) (v := .int (x 5)) rfl dX4_sign_2 ?_
  refine z_top (nI at_) hat ?_
  refine z_cOV (pc := 5) gX (zI_ok gX hAX) [.int (nI at_)] [] [0, 1] (met_X4_letterAt l D B0 o ad x tp t at_ (by first | assumption | omega) (by first | assumption | omega) (by first | assumption | omega)) q1501 q1503 qs32 q54 q1504 (zm 0 rfl) (ci := 4) rfl rfl hd_X4_letterAt ⟨rfl, rfl⟩ ⟨(Nat.le_of_ble_eq_true rfl), (Nat.le_of_ble_eq_true rfl)⟩ rfl rfl rfl (Nat.le_of_ble_eq_true rfl) ⟨(Nat.le_of_ble_eq_true rfl), (Nat.le_of_ble_eq_true rfl)⟩ dX4_sign_5 ?_
  intro _ hu5
  refine z_eq (lv₂ := [(0, .ref o), (1, .int v)]) (st₂ := [.int (ltA tp t at_)]) ?_ rfl rfl
  refine z_iload_n (pc := 8) gX 1 dX4_sign_8 rfl rfl ?_
  refine z_icmp_eq (pc := 9) gX 18 dX4_sign_9 (by decide) (fun c9 => ?_) (fun c9 => ?_)
  · skip
    refine z_aload_n (pc := 18) gX 0 dX4_sign_18 rfl rfl ?_
    refine z_dup (pc := 19) gX dX4_sign_19 rfl ?_
    refine z_get (pc := 20) gX (zI_ok gX hAX) (zm 0 rfl) (ci := 4) (C := RX4) (T := TX4) (N := 20) rfl in_X4 18 (by decide) q1401 (fun _ h => h) (v := .int (x 5)) rfl dX4_sign_20 ?_
    refine z_top (nI at_) hat ?_
    refine z_iconst (pc := 23) gX 1 dX4_sign_23 (by decide) ?_
    refine z_iadd (pc := 24) gX dX4_sign_24 ?_
    refine z_top (nI (at_ + 1)) (nI_add at_ 1) ?_
    refine z_put (pc := 25) gX hAX 0 rfl (ci := 4) (C := RX4) (T := TX4) (N := 20) rfl in_X4 tyX4 tyX4_ok nmX4 18 (by decide) q1401 (fun _ h => h) rfl (v := .int (nI (at_ + 1))) rfl rfl (Nat.le_of_ble_eq_true rfl) [mOb o ad (upd x 5 (nI (at_ + 1))), [(ad 4, .inl (D.1 100, 90, .inl tp))]] rfl dX4_sign_25 ?_
    refine z_iconst (pc := 28) gX 1 dX4_sign_28 (by decide) ?_
    exact z_rzm gX hQX (true, upd x 5 (nI (at_ + 1))) (by simp [mSign, c9]) (⟨rfl, rfl⟩) rfl (by first | decide | omega) (by first | decide | omega) dX4_sign_29
  · skip
    refine z_aload_n (pc := 12) gX 0 dX4_sign_12 rfl rfl ?_
    refine z_iconst (pc := 13) gX 1 dX4_sign_13 (by decide) ?_
    refine z_cMV (pc := 14) gX hAX [.int 1] [] [0] [1] (fun A1 => met_X4_fails l D B0 A1 o ad x 1 ) q1505 q1507 qs33 q54 q1508 (zm 0 rfl) (ci := 4) rfl rfl hd_X4_fails ⟨rfl, rfl⟩ ⟨(Nat.le_of_ble_eq_true rfl), (Nat.le_of_ble_eq_true rfl)⟩ rfl rfl rfl rfl rfl (Nat.le_of_ble_eq_true rfl) ⟨(Nat.le_of_ble_eq_true rfl), (Nat.le_of_ble_eq_true rfl)⟩ dX4_sign_14 ?_
    intro _ hu14
    refine z_re [0, 1] [mOb o ad (upd x 6 1), [(ad 4, .inl (D.1 100, 90, .inl tp))]] rfl rfl ?_
    refine z_eq (lv₂ := [(0, .ref o), (1, .int v)]) (st₂ := [.int (bI false)]) ?_ rfl rfl
    exact z_rzm gX hQX (false, upd x 6 1) (by simp [mSign, c9]) (⟨rfl, rfl⟩) rfl (by first | decide | omega) (by first | decide | omega) dX4_sign_17
theorem hd_X4_sign : zHd yX4_sign 1 := by unfold zHd; decide +kernel

theorem dg_end {tp : Nat → Int32} {t i a D : Nat} (h : isDg (ltA tp t (a + i)) = false ∨ i = 3) (hi : i ≤ 3) (hr : i + dgF tp t (3 - i) (a + i) = D) : D = i := by
  rcases Nat.lt_or_ge i 3 with h3 | h3
  · rw [dgF_s h3] at hr
    rcases h with h | h
    · rw [h, if_neg Bool.false_ne_true] at hr; omega
    · omega
  · rw [show 3 - i = 0 by omega] at hr; exact hr.symm
theorem dgF_le {tp : Nat → Int32} {t : Nat} : ∀ m i, 0 < dgF tp t m i → i + dgF tp t m i ≤ t
  | 0, i, h => absurd h (Nat.lt_irrefl 0)
  | m + 1, i, h => by
    simp only [dgF] at h ⊢
    split
    · rename_i hd
      have h1 := dg_in hd
      rcases Nat.eq_zero_or_pos (dgF tp t m (i + 1)) with h2 | h2
      · omega
      · have := dgF_le m (i + 1) h2; omega
    · rename_i hd
      rw [if_neg hd] at h
      exact absurd h (Nat.lt_irrefl 0)
theorem mSign_t {tp : Nat → Int32} {t at_ : Nat} {x x1 : Nat → Int32} {v : Int32} {b : Bool} (h : (b, x1) = mSign tp t at_ x v) (hb : b = true) (hv : ¬ v = -1) : (∀ d, pSign tp t v (at_, d) = .inr (at_ + 1, d)) ∧ x1 = upd x 5 (nI (at_ + 1)) ∧ at_ + 1 ≤ t := by
  simp only [mSign] at h
  split at h
  · rename_i h1
    refine ⟨fun d => by simp only [pSign]; rw [if_pos h1], congrArg Prod.snd h, ?_⟩
    simp only [ltA] at h1
    split at h1
    · omega
    · exact absurd h1.symm hv
  · exact absurd (hb.symm.trans (congrArg Prod.fst h)) (by simp)
theorem mSign_f {tp : Nat → Int32} {t at_ : Nat} {x x1 : Nat → Int32} {v : Int32} {b : Bool} (h : (b, x1) = mSign tp t at_ x v) (hb : b = false) : (∀ d, pSign tp t v (at_, d) = .inl (1, at_)) ∧ x1 = upd x 6 1 := by
  simp only [mSign] at h
  split at h
  · exact absurd (hb.symm.trans (congrArg Prod.fst h)) (by simp)
  · rename_i h1
    exact ⟨fun d => by simp only [pSign]; rw [if_neg h1], congrArg Prod.snd h⟩
theorem pNum_le {tp : Nat → Int32} {t pl : Nat} {lo hi : Int32} {s s1 : PS} (h : pNum tp t pl lo hi s = .inr s1) : s1.1 ≤ t ∧ ∃ v, s1.2 = upd s.2 pl v ∧ mIn v lo hi = true := by
  simp only [pNum] at h
  split at h
  · cases h
  · rename_i h1
    split at h
    · rename_i h2
      cases h
      exact ⟨dgF_le 3 s.1 (by omega), _, rfl, h2⟩
    · cases h
theorem mNumb_t {tp : Nat → Int32} {t at_ : Nat} {x d x1 d1 : Nat → Int32} {pl : Nat} {lo hi : Int32} {b : Bool} (h : (b, x1, d1) = mNumb tp t at_ x d pl lo hi) (hb : b = true) : ∃ (a : Nat) (v : Int32), pNum tp t pl lo hi (at_, d) = .inr (a, upd d pl v) ∧ x1 = upd x 5 (nI a) ∧ d1 = upd d pl v ∧ a ≤ t ∧ mIn v lo hi = true := by
  simp only [mNumb] at h
  cases hp : pNum tp t pl lo hi (at_, d) with
  | inl e => rw [hp] at h; exact absurd (hb.symm.trans (congrArg Prod.fst h)) (by simp)
  | inr s1 =>
    rw [hp] at h
    obtain ⟨h1, v, h2, h3⟩ := pNum_le hp
    obtain ⟨a, d2⟩ := s1
    have h2 : d2 = upd d pl v := h2
    subst h2
    exact ⟨a, v, rfl, congrArg (fun z => z.2.1) h, congrArg (fun z => z.2.2) h, h1, h3⟩
theorem mNumb_f {tp : Nat → Int32} {t at_ : Nat} {x d x1 d1 : Nat → Int32} {pl : Nat} {lo hi : Int32} {b : Bool} (h : (b, x1, d1) = mNumb tp t at_ x d pl lo hi) (hb : b = false) : ∃ e : Nat, pNum tp t pl lo hi (at_, d) = .inl (e, at_) ∧ x1 = upd x 6 (nI e) := by
  simp only [mNumb] at h
  cases hp : pNum tp t pl lo hi (at_, d) with
  | inl e =>
    rw [hp] at h
    simp only [pNum] at hp
    split at hp
    · cases hp; exact ⟨1, rfl, congrArg (fun z => z.2.1) h⟩
    · split at hp
      · cases hp
      · cases hp; exact ⟨2, rfl, congrArg (fun z => z.2.1) h⟩
  | inr s1 => rw [hp] at h; exact absurd (hb.symm.trans (congrArg Prod.fst h)) (by simp)
def rdP (tp : Nat → Int32) (t : Nat) (x d : Nat → Int32) (b : Bool) (x1 d1 : Nat → Int32) : Prop := match pAll tp t d with
  | .inl e => b = false ∧ x1 = upd (upd x 5 (nI e.2)) 6 (nI e.1)
  | .inr s => b = true ∧ x1 = upd x 5 (nI s.1) ∧ d1 = s.2
theorem rdP_f {tp : Nat → Int32} {t : Nat} {x d x1 d1 : Nat → Int32} {e a : Nat} (h : pAll tp t d = .inl (e, a)) (hx : x1 = upd (upd x 5 (nI a)) 6 (nI e)) : rdP tp t x d false x1 d1 := by
  unfold rdP; rw [h]; exact ⟨rfl, hx⟩
theorem rdP_t {tp : Nat → Int32} {t : Nat} {x d x1 d1 : Nat → Int32} {a : Nat} (h : pAll tp t d = .inr (a, d1)) (hx : x1 = upd x 5 (nI a)) : rdP tp t x d true x1 d1 := by
  unfold rdP; rw [h]; exact ⟨rfl, hx, rfl⟩
theorem pLoop_s {tp : Nat → Int32} {t m : Nat} {s : PS} (h : m ≤ 7) : pLoop tp t (8 - m) m s = if s.1 < t ∨ m = 0 then sB (pRid tp t m s) (pLoop tp t (8 - (m + 1)) (m + 1)) else .inr s := by
  rw [show 8 - m = (8 - (m + 1)) + 1 by omega]; rfl

set_option maxHeartbeats 4000000 in
theorem met_X4_number (l : Launch) (D : va_G) (B0 : Nat) (A : Nat → Prop) (o : Nat) (ad : Nat → Nat) (x : Nat → Int32) (tp : Nat → Int32) (t : Nat) (at_ : Nat) (d : Nat → Int32) (pl : Nat) (lo : Int32) (hi : Int32) (hty : x 1 = nI t) (ht90 : t ≤ 90) (hat : x 5 = nI at_) (ha100 : at_ ≤ 100) (hpl : pl < 25) : Met l yX4_number (ws_ yX4_number cX4_number 6 (some .boolean)) (zRm 3 0 0) (va_Pc [.ref o, .int (nI pl), .int lo, .int hi] (zPre B0 D A [mOb o ad x, [(ad 4, .inl (D.1 100, 90, .inl tp))], [(ad 6, .inl (D.1 100, 25, .inl d))]])) (zQ (S := Bool × (Nat → Int32) × (Nat → Int32)) (fun u => (fun (b : Bool) (x1 : Nat → Int32) (d1 : Nat → Int32) => (b, x1, d1) = mNumb tp t at_ x d pl lo hi) u.1 u.2.1 u.2.2) (fun u => (fun (b : Bool) (x1 : Nat → Int32) (d1 : Nat → Int32) => some (.int (bI b))) u.1 u.2.1 u.2.2) (fun u => (fun (b : Bool) (x1 : Nat → Int32) (d1 : Nat → Int32) => [mOb o ad x1, [(ad 4, .inl (D.1 100, 90, .inl tp))], [(ad 6, .inl (D.1 100, 25, .inl d1))]]) u.1 u.2.1 u.2.2) D A) 0 0 A := by
  refine z_entry (by decide +kernel) (Nat.le_of_ble_eq_true rfl) (fun pX eX sX mX argsX blX mtX cX QX hQX gX hAX hnm => ?_)
  refine z_eq (lv₂ := [(0, .ref o), (1, .int (nI pl)), (2, .int lo), (3, .int hi)]) (st₂ := []) ?_ rfl rfl
  refine z_iconst (pc := 0) gX 0 dX4_number_0 (by decide) ?_
  refine z_istore (pc := 1) gX [1, 2, 3, 4, 0] [(0, .ref o), (1, .int (nI pl)), (2, .int lo), (3, .int hi), (4, .int 0)] dX4_number_1 (by decide) rfl ?_
  refine z_iconst (pc := 3) gX 0 dX4_number_3 (by decide) ?_
  refine z_istore (pc := 4) gX [1, 2, 3, 4, 5, 0] [(0, .ref o), (1, .int (nI pl)), (2, .int lo), (3, .int hi), (4, .int 0), (5, .int 0)] dX4_number_4 (by decide) rfl ?_
  have L6 : ∀ (n6 : Nat) (i : Nat) (v : Int32), (i ≤ 3) → (i + dgF tp t (3 - i) (at_ + i) = dgF tp t 3 at_) → (v = numV tp at_ i) → 3 - i < n6 → zJ pX l eX (zRm 3 0 0) sX mX argsX blX mtX cX QX 6 (zI D A sX [mOb o ad x, [(ad 4, .inl (D.1 100, 90, .inl tp))], [(ad 6, .inl (D.1 100, 25, .inl d))]]) 0 0 6 [(0, .ref o), (1, .int (nI pl)), (2, .int lo), (3, .int hi), (4, .int (nI i)), (5, .int v)] [] := by
    intro n6
    induction n6 with
    | zero => exact fun i v hi3 hrem hv hm6 => absurd hm6 (Nat.not_lt_zero _)
    | succ n6 ih6 =>
      intro i v hi3 hrem hv hm6
      refine z_aload_n (pc := 6) gX 0 dX4_number_6 rfl rfl ?_
      refine z_aload_n (pc := 7) gX 0 dX4_number_7 rfl rfl ?_
      refine z_get (pc := 8) gX (zI_ok gX hAX) (zm 0 rfl) (ci := 4) (C := RX4) (T := TX4) (N := 20) rfl in_X4 18 (by decide) q1401 (fun _ h => h) (v := .int (x 5)) rfl dX4_number_8 ?_
      refine z_top (nI at_) hat ?_
      refine z_iload (pc := 11) gX 4 dX4_number_11 rfl ?_
      refine z_iadd (pc := 13) gX dX4_number_13 ?_
      refine z_top (nI (at_ + i)) (nI_add at_ i) ?_
      refine z_cOV (pc := 14) gX (zI_ok gX hAX) [.int (nI (at_ + i))] [] [0, 1] (met_X4_letterAt l D B0 o ad x tp t (at_ + i) (by first | assumption | omega) (by first | assumption | omega) (by omega)) q1501 q1503 qs32 q54 q1504 (zm 0 rfl) (ci := 4) rfl rfl hd_X4_letterAt ⟨rfl, rfl⟩ ⟨(Nat.le_of_ble_eq_true rfl), (Nat.le_of_ble_eq_true rfl)⟩ rfl rfl rfl (Nat.le_of_ble_eq_true rfl) ⟨(Nat.le_of_ble_eq_true rfl), (Nat.le_of_ble_eq_true rfl)⟩ dX4_number_14 ?_
      intro _ hu14
      refine z_eq (lv₂ := [(0, .ref o), (1, .int (nI pl)), (2, .int lo), (3, .int hi), (4, .int (nI i)), (5, .int v)]) (st₂ := [.int (ltA tp t (at_ + i))]) ?_ rfl rfl
      refine z_cOS (pc := 17) gX (zI_ok gX hAX) [.int (ltA tp t (at_ + i))] [] [] (met_X4_isDigit l D B0 (ltA tp t (at_ + i)) ) q1513 q1514 q54 q1515 hd_X4_isDigit ⟨rfl, rfl⟩ ⟨(Nat.le_of_ble_eq_true rfl), (Nat.le_of_ble_eq_true rfl)⟩ rfl rfl rfl (Nat.le_of_ble_eq_true rfl) ⟨(Nat.le_of_ble_eq_true rfl), (Nat.le_of_ble_eq_true rfl)⟩ dX4_number_17 ?_
      intro _ hu17
      refine z_eq (lv₂ := [(0, .ref o), (1, .int (nI pl)), (2, .int lo), (3, .int hi), (4, .int (nI i)), (5, .int v)]) (st₂ := [.int (bI (isDg (ltA tp t (at_ + i))))]) ?_ rfl rfl
      refine z_if_eq (pc := 20) gX 58 dX4_number_20 (by decide) (fun c20 => ?_) (fun c20 => ?_)
      · skip
        have k20 : (isDg (ltA tp t (at_ + i))) = false := bI_eq0 c20
        have hdg : dgF tp t 3 at_ = i := dg_end (Or.inl k20) hi3 hrem
        refine z_iload (pc := 58) gX 4 dX4_number_58 rfl ?_
        refine z_if_eq (pc := 60) gX 69 dX4_number_60 (by decide) (fun c60 => ?_) (fun c60 => ?_)
        · skip
          have hi0 : i = 0 := (zn_eq (a := i) (b := 0) (by omega) (by omega)).mp c60
          refine z_aload_n (pc := 69) gX 0 dX4_number_69 rfl rfl ?_
          refine z_iconst (pc := 70) gX 1 dX4_number_70 (by decide) ?_
          refine z_cMV (pc := 71) gX hAX [.int 1] [] [0] [1, 2] (fun A1 => met_X4_fails l D B0 A1 o ad x 1 ) q1505 q1507 qs33 q54 q1508 (zm 0 rfl) (ci := 4) rfl rfl hd_X4_fails ⟨rfl, rfl⟩ ⟨(Nat.le_of_ble_eq_true rfl), (Nat.le_of_ble_eq_true rfl)⟩ rfl rfl rfl rfl rfl (Nat.le_of_ble_eq_true rfl) ⟨(Nat.le_of_ble_eq_true rfl), (Nat.le_of_ble_eq_true rfl)⟩ dX4_number_71 ?_
          intro _ hu71
          refine z_re [0, 1, 2] [mOb o ad (upd x 6 1), [(ad 4, .inl (D.1 100, 90, .inl tp))], [(ad 6, .inl (D.1 100, 25, .inl d))]] rfl rfl ?_
          refine z_eq (lv₂ := [(0, .ref o), (1, .int (nI pl)), (2, .int lo), (3, .int hi), (4, .int (nI i)), (5, .int v)]) (st₂ := [.int (bI false)]) ?_ rfl rfl
          exact z_rzm gX hQX (false, upd x 6 1, d) (by simp only [mNumb, pNum, hdg]; rw [if_pos (by omega)]; rfl) (⟨rfl, rfl⟩) rfl (by first | decide | omega) (by first | decide | omega) dX4_number_74
        · skip
          have hi0 : ¬ i = 0 := fun h => c60 ((zn_eq (a := i) (b := 0) (by omega) (by omega)).mpr h)
          refine z_iload (pc := 63) gX 4 dX4_number_63 rfl ?_
          refine z_iconst (pc := 65) gX 3 dX4_number_65 (by decide) ?_
          refine z_icmp_ne (pc := 66) gX 75 dX4_number_66 (by decide) (fun c66 => ?_) (fun c66 => ?_)
          · skip
            have k66 : ¬ i = 3 := fun h => c66 ((zn_eq (a := i) (b := 3) (by omega) (by omega)).mpr h)
            refine z_iload (pc := 75) gX 5 dX4_number_75 rfl ?_
            refine z_iload_n (pc := 77) gX 2 dX4_number_77 rfl rfl ?_
            refine z_iload_n (pc := 78) gX 3 dX4_number_78 rfl rfl ?_
            refine z_cOS (pc := 79) gX (zI_ok gX hAX) [.int v, .int lo, .int hi] [] [] (met_X4_in l D B0 v lo hi ) q1452 q1453 q54 q1454 hd_X4_in ⟨rfl, rfl⟩ ⟨(Nat.le_of_ble_eq_true rfl), (Nat.le_of_ble_eq_true rfl)⟩ rfl rfl rfl (Nat.le_of_ble_eq_true rfl) ⟨(Nat.le_of_ble_eq_true rfl), (Nat.le_of_ble_eq_true rfl)⟩ dX4_number_79 ?_
            intro _ hu79
            refine z_eq (lv₂ := [(0, .ref o), (1, .int (nI pl)), (2, .int lo), (3, .int hi), (4, .int (nI i)), (5, .int v)]) (st₂ := [.int (bI (mIn v lo hi))]) ?_ rfl rfl
            refine z_if_ne (pc := 82) gX 91 dX4_number_82 (by decide) (fun c82 => ?_) (fun c82 => ?_)
            · skip
              have k82 : (mIn v lo hi) = true := bI_ne0 c82
              refine z_aload_n (pc := 91) gX 0 dX4_number_91 rfl rfl ?_
              refine z_dup (pc := 92) gX dX4_number_92 rfl ?_
              refine z_get (pc := 93) gX (zI_ok gX hAX) (zm 0 rfl) (ci := 4) (C := RX4) (T := TX4) (N := 20) rfl in_X4 18 (by decide) q1401 (fun _ h => h) (v := .int (x 5)) rfl dX4_number_93 ?_
              refine z_top (nI at_) hat ?_
              refine z_iload (pc := 96) gX 4 dX4_number_96 rfl ?_
              refine z_iadd (pc := 98) gX dX4_number_98 ?_
              refine z_top (nI (at_ + i)) (nI_add at_ i) ?_
              refine z_put (pc := 99) gX hAX 0 rfl (ci := 4) (C := RX4) (T := TX4) (N := 20) rfl in_X4 tyX4 tyX4_ok nmX4 18 (by decide) q1401 (fun _ h => h) rfl (v := .int (nI (at_ + i))) rfl rfl (Nat.le_of_ble_eq_true rfl) [mOb o ad (upd x 5 (nI (at_ + i))), [(ad 4, .inl (D.1 100, 90, .inl tp))], [(ad 6, .inl (D.1 100, 25, .inl d))]] rfl dX4_number_99 ?_
              refine z_aload_n (pc := 102) gX 0 dX4_number_102 rfl rfl ?_
              refine z_get (pc := 103) gX (zI_ok gX hAX) (zm 0 rfl) (ci := 4) (C := RX4) (T := TX4) (N := 20) rfl in_X4 9 (by decide) q1392 (fun _ h => h) (v := .ref (ad 6)) rfl dX4_number_103 ?_
              refine z_iload_n (pc := 106) gX 1 dX4_number_106 rfl rfl ?_
              refine z_iload (pc := 107) gX 5 dX4_number_107 rfl ?_
              refine z_iast (pc := 109) gX hAX 2 (j := pl) (n := 25) (f := d) rfl (by omega) (by decide) [mOb o ad (upd x 5 (nI (at_ + i))), [(ad 4, .inl (D.1 100, 90, .inl tp))], [(ad 6, .inl (D.1 100, 25, .inl (upd d pl v)))]] rfl dX4_number_109 ?_
              refine z_iconst (pc := 110) gX 1 dX4_number_110 (by decide) ?_
              exact z_rzm gX hQX (true, upd x 5 (nI (at_ + i)), upd d pl v) (by simp only [mNumb, pNum, hdg]; rw [if_neg (by omega), if_pos (by rw [← hv]; exact k82), ← hv]) (⟨rfl, rfl⟩) rfl (by first | decide | omega) (by first | decide | omega) dX4_number_111
            · skip
              have k82 : (mIn v lo hi) = false := bI_eq0 c82
              refine z_aload_n (pc := 85) gX 0 dX4_number_85 rfl rfl ?_
              refine z_iconst (pc := 86) gX 2 dX4_number_86 (by decide) ?_
              refine z_cMV (pc := 87) gX hAX [.int 2] [] [0] [1, 2] (fun A1 => met_X4_fails l D B0 A1 o ad x 2 ) q1505 q1507 qs33 q54 q1508 (zm 0 rfl) (ci := 4) rfl rfl hd_X4_fails ⟨rfl, rfl⟩ ⟨(Nat.le_of_ble_eq_true rfl), (Nat.le_of_ble_eq_true rfl)⟩ rfl rfl rfl rfl rfl (Nat.le_of_ble_eq_true rfl) ⟨(Nat.le_of_ble_eq_true rfl), (Nat.le_of_ble_eq_true rfl)⟩ dX4_number_87 ?_
              intro _ hu87
              refine z_re [0, 1, 2] [mOb o ad (upd x 6 2), [(ad 4, .inl (D.1 100, 90, .inl tp))], [(ad 6, .inl (D.1 100, 25, .inl d))]] rfl rfl ?_
              refine z_eq (lv₂ := [(0, .ref o), (1, .int (nI pl)), (2, .int lo), (3, .int hi), (4, .int (nI i)), (5, .int v)]) (st₂ := [.int (bI false)]) ?_ rfl rfl
              exact z_rzm gX hQX (false, upd x 6 2, d) (by simp only [mNumb, pNum, hdg]; rw [if_neg (by omega), if_neg (by rw [← hv, k82]; exact Bool.false_ne_true)]; rfl) (⟨rfl, rfl⟩) rfl (by first | decide | omega) (by first | decide | omega) dX4_number_90
          · skip
            have k66 : i = 3 := (zn_eq (a := i) (b := 3) (by omega) (by omega)).mp c66
            refine z_aload_n (pc := 69) gX 0 dX4_number_69 rfl rfl ?_
            refine z_iconst (pc := 70) gX 1 dX4_number_70 (by decide) ?_
            refine z_cMV (pc := 71) gX hAX [.int 1] [] [0] [1, 2] (fun A1 => met_X4_fails l D B0 A1 o ad x 1 ) q1505 q1507 qs33 q54 q1508 (zm 0 rfl) (ci := 4) rfl rfl hd_X4_fails ⟨rfl, rfl⟩ ⟨(Nat.le_of_ble_eq_true rfl), (Nat.le_of_ble_eq_true rfl)⟩ rfl rfl rfl rfl rfl (Nat.le_of_ble_eq_true rfl) ⟨(Nat.le_of_ble_eq_true rfl), (Nat.le_of_ble_eq_true rfl)⟩ dX4_number_71 ?_
            intro _ hu71
            refine z_re [0, 1, 2] [mOb o ad (upd x 6 1), [(ad 4, .inl (D.1 100, 90, .inl tp))], [(ad 6, .inl (D.1 100, 25, .inl d))]] rfl rfl ?_
            refine z_eq (lv₂ := [(0, .ref o), (1, .int (nI pl)), (2, .int lo), (3, .int hi), (4, .int (nI i)), (5, .int v)]) (st₂ := [.int (bI false)]) ?_ rfl rfl
            exact z_rzm gX hQX (false, upd x 6 1, d) (by simp only [mNumb, pNum, hdg]; rw [if_pos (by omega)]; rfl) (⟨rfl, rfl⟩) rfl (by first | decide | omega) (by first | decide | omega) dX4_number_74
      · skip
        have k20 : (isDg (ltA tp t (at_ + i))) = true := bI_ne0 c20
        have hlt := dg_in k20
        refine z_iload (pc := 23) gX 4 dX4_number_23 rfl ?_
        refine z_iconst (pc := 25) gX 3 dX4_number_25 (by decide) ?_
        refine z_icmp_ge (pc := 26) gX 58 dX4_number_26 (by decide) (fun c26 => ?_) (fun c26 => ?_)
        · skip
          have k26 : 3 ≤ i := (zn_le (a := 3) (b := i) (by omega) (by omega)).mp c26
          have hdg : dgF tp t 3 at_ = i := dg_end (Or.inr (by omega)) hi3 hrem
          refine z_iload (pc := 58) gX 4 dX4_number_58 rfl ?_
          refine z_if_eq (pc := 60) gX 69 dX4_number_60 (by decide) (fun c60 => ?_) (fun c60 => ?_)
          · skip
            have hi0 : i = 0 := (zn_eq (a := i) (b := 0) (by omega) (by omega)).mp c60
            refine z_aload_n (pc := 69) gX 0 dX4_number_69 rfl rfl ?_
            refine z_iconst (pc := 70) gX 1 dX4_number_70 (by decide) ?_
            refine z_cMV (pc := 71) gX hAX [.int 1] [] [0] [1, 2] (fun A1 => met_X4_fails l D B0 A1 o ad x 1 ) q1505 q1507 qs33 q54 q1508 (zm 0 rfl) (ci := 4) rfl rfl hd_X4_fails ⟨rfl, rfl⟩ ⟨(Nat.le_of_ble_eq_true rfl), (Nat.le_of_ble_eq_true rfl)⟩ rfl rfl rfl rfl rfl (Nat.le_of_ble_eq_true rfl) ⟨(Nat.le_of_ble_eq_true rfl), (Nat.le_of_ble_eq_true rfl)⟩ dX4_number_71 ?_
            intro _ hu71
            refine z_re [0, 1, 2] [mOb o ad (upd x 6 1), [(ad 4, .inl (D.1 100, 90, .inl tp))], [(ad 6, .inl (D.1 100, 25, .inl d))]] rfl rfl ?_
            refine z_eq (lv₂ := [(0, .ref o), (1, .int (nI pl)), (2, .int lo), (3, .int hi), (4, .int (nI i)), (5, .int v)]) (st₂ := [.int (bI false)]) ?_ rfl rfl
            exact z_rzm gX hQX (false, upd x 6 1, d) (by simp only [mNumb, pNum, hdg]; rw [if_pos (by omega)]; rfl) (⟨rfl, rfl⟩) rfl (by first | decide | omega) (by first | decide | omega) dX4_number_74
          · skip
            have hi0 : ¬ i = 0 := fun h => c60 ((zn_eq (a := i) (b := 0) (by omega) (by omega)).mpr h)
            refine z_iload (pc := 63) gX 4 dX4_number_63 rfl ?_
            refine z_iconst (pc := 65) gX 3 dX4_number_65 (by decide) ?_
            refine z_icmp_ne (pc := 66) gX 75 dX4_number_66 (by decide) (fun c66 => ?_) (fun c66 => ?_)
            · skip
              have k66 : ¬ i = 3 := fun h => c66 ((zn_eq (a := i) (b := 3) (by omega) (by omega)).mpr h)
              refine z_iload (pc := 75) gX 5 dX4_number_75 rfl ?_
              refine z_iload_n (pc := 77) gX 2 dX4_number_77 rfl rfl ?_
              refine z_iload_n (pc := 78) gX 3 dX4_number_78 rfl rfl ?_
              refine z_cOS (pc := 79) gX (zI_ok gX hAX) [.int v, .int lo, .int hi] [] [] (met_X4_in l D B0 v lo hi ) q1452 q1453 q54 q1454 hd_X4_in ⟨rfl, rfl⟩ ⟨(Nat.le_of_ble_eq_true rfl), (Nat.le_of_ble_eq_true rfl)⟩ rfl rfl rfl (Nat.le_of_ble_eq_true rfl) ⟨(Nat.le_of_ble_eq_true rfl), (Nat.le_of_ble_eq_true rfl)⟩ dX4_number_79 ?_
              intro _ hu79
              refine z_eq (lv₂ := [(0, .ref o), (1, .int (nI pl)), (2, .int lo), (3, .int hi), (4, .int (nI i)), (5, .int v)]) (st₂ := [.int (bI (mIn v lo hi))]) ?_ rfl rfl
              refine z_if_ne (pc := 82) gX 91 dX4_number_82 (by decide) (fun c82 => ?_) (fun c82 => ?_)
              · skip
                have k82 : (mIn v lo hi) = true := bI_ne0 c82
                refine z_aload_n (pc := 91) gX 0 dX4_number_91 rfl rfl ?_
                refine z_dup (pc := 92) gX dX4_number_92 rfl ?_
                refine z_get (pc := 93) gX (zI_ok gX hAX) (zm 0 rfl) (ci := 4) (C := RX4) (T := TX4) (N := 20) rfl in_X4 18 (by decide) q1401 (fun _ h => h) (v := .int (x 5)) rfl dX4_number_93 ?_
                refine z_top (nI at_) hat ?_
                refine z_iload (pc := 96) gX 4 dX4_number_96 rfl ?_
                refine z_iadd (pc := 98) gX dX4_number_98 ?_
                refine z_top (nI (at_ + i)) (nI_add at_ i) ?_
                refine z_put (pc := 99) gX hAX 0 rfl (ci := 4) (C := RX4) (T := TX4) (N := 20) rfl in_X4 tyX4 tyX4_ok nmX4 18 (by decide) q1401 (fun _ h => h) rfl (v := .int (nI (at_ + i))) rfl rfl (Nat.le_of_ble_eq_true rfl) [mOb o ad (upd x 5 (nI (at_ + i))), [(ad 4, .inl (D.1 100, 90, .inl tp))], [(ad 6, .inl (D.1 100, 25, .inl d))]] rfl dX4_number_99 ?_
                refine z_aload_n (pc := 102) gX 0 dX4_number_102 rfl rfl ?_
                refine z_get (pc := 103) gX (zI_ok gX hAX) (zm 0 rfl) (ci := 4) (C := RX4) (T := TX4) (N := 20) rfl in_X4 9 (by decide) q1392 (fun _ h => h) (v := .ref (ad 6)) rfl dX4_number_103 ?_
                refine z_iload_n (pc := 106) gX 1 dX4_number_106 rfl rfl ?_
                refine z_iload (pc := 107) gX 5 dX4_number_107 rfl ?_
                refine z_iast (pc := 109) gX hAX 2 (j := pl) (n := 25) (f := d) rfl (by omega) (by decide) [mOb o ad (upd x 5 (nI (at_ + i))), [(ad 4, .inl (D.1 100, 90, .inl tp))], [(ad 6, .inl (D.1 100, 25, .inl (upd d pl v)))]] rfl dX4_number_109 ?_
                refine z_iconst (pc := 110) gX 1 dX4_number_110 (by decide) ?_
                exact z_rzm gX hQX (true, upd x 5 (nI (at_ + i)), upd d pl v) (by simp only [mNumb, pNum, hdg]; rw [if_neg (by omega), if_pos (by rw [← hv]; exact k82), ← hv]) (⟨rfl, rfl⟩) rfl (by first | decide | omega) (by first | decide | omega) dX4_number_111
              · skip
                have k82 : (mIn v lo hi) = false := bI_eq0 c82
                refine z_aload_n (pc := 85) gX 0 dX4_number_85 rfl rfl ?_
                refine z_iconst (pc := 86) gX 2 dX4_number_86 (by decide) ?_
                refine z_cMV (pc := 87) gX hAX [.int 2] [] [0] [1, 2] (fun A1 => met_X4_fails l D B0 A1 o ad x 2 ) q1505 q1507 qs33 q54 q1508 (zm 0 rfl) (ci := 4) rfl rfl hd_X4_fails ⟨rfl, rfl⟩ ⟨(Nat.le_of_ble_eq_true rfl), (Nat.le_of_ble_eq_true rfl)⟩ rfl rfl rfl rfl rfl (Nat.le_of_ble_eq_true rfl) ⟨(Nat.le_of_ble_eq_true rfl), (Nat.le_of_ble_eq_true rfl)⟩ dX4_number_87 ?_
                intro _ hu87
                refine z_re [0, 1, 2] [mOb o ad (upd x 6 2), [(ad 4, .inl (D.1 100, 90, .inl tp))], [(ad 6, .inl (D.1 100, 25, .inl d))]] rfl rfl ?_
                refine z_eq (lv₂ := [(0, .ref o), (1, .int (nI pl)), (2, .int lo), (3, .int hi), (4, .int (nI i)), (5, .int v)]) (st₂ := [.int (bI false)]) ?_ rfl rfl
                exact z_rzm gX hQX (false, upd x 6 2, d) (by simp only [mNumb, pNum, hdg]; rw [if_neg (by omega), if_neg (by rw [← hv, k82]; exact Bool.false_ne_true)]; rfl) (⟨rfl, rfl⟩) rfl (by first | decide | omega) (by first | decide | omega) dX4_number_90
            · skip
              have k66 : i = 3 := (zn_eq (a := i) (b := 3) (by omega) (by omega)).mp c66
              refine z_aload_n (pc := 69) gX 0 dX4_number_69 rfl rfl ?_
              refine z_iconst (pc := 70) gX 1 dX4_number_70 (by decide) ?_
              refine z_cMV (pc := 71) gX hAX [.int 1] [] [0] [1, 2] (fun A1 => met_X4_fails l D B0 A1 o ad x 1 ) q1505 q1507 qs33 q54 q1508 (zm 0 rfl) (ci := 4) rfl rfl hd_X4_fails ⟨rfl, rfl⟩ ⟨(Nat.le_of_ble_eq_true rfl), (Nat.le_of_ble_eq_true rfl)⟩ rfl rfl rfl rfl rfl (Nat.le_of_ble_eq_true rfl) ⟨(Nat.le_of_ble_eq_true rfl), (Nat.le_of_ble_eq_true rfl)⟩ dX4_number_71 ?_
              intro _ hu71
              refine z_re [0, 1, 2] [mOb o ad (upd x 6 1), [(ad 4, .inl (D.1 100, 90, .inl tp))], [(ad 6, .inl (D.1 100, 25, .inl d))]] rfl rfl ?_
              refine z_eq (lv₂ := [(0, .ref o), (1, .int (nI pl)), (2, .int lo), (3, .int hi), (4, .int (nI i)), (5, .int v)]) (st₂ := [.int (bI false)]) ?_ rfl rfl
              exact z_rzm gX hQX (false, upd x 6 1, d) (by simp only [mNumb, pNum, hdg]; rw [if_pos (by omega)]; rfl) (⟨rfl, rfl⟩) rfl (by first | decide | omega) (by first | decide | omega) dX4_number_74
        · skip
          have k26 : i < 3 := (zn_nle (a := 3) (b := i) (by omega) (by omega)).mp c26
          refine z_bipush (pc := 29) gX 10 dX4_number_29 (by decide) ?_
          refine z_iload (pc := 31) gX 5 dX4_number_31 rfl ?_
          refine z_imul (pc := 33) gX dX4_number_33 ?_
          refine z_aload_n (pc := 34) gX 0 dX4_number_34 rfl rfl ?_
          refine z_get (pc := 35) gX (zI_ok gX hAX) (zm 0 rfl) (ci := 4) (C := RX4) (T := TX4) (N := 20) rfl in_X4 5 (by decide) q1388 (fun _ h => h) (v := .ref (ad 4)) rfl dX4_number_35 ?_
          refine z_aload_n (pc := 38) gX 0 dX4_number_38 rfl rfl ?_
          refine z_get (pc := 39) gX (zI_ok gX hAX) (zm 0 rfl) (ci := 4) (C := RX4) (T := TX4) (N := 20) rfl in_X4 18 (by decide) q1401 (fun _ h => h) (v := .int (x 5)) rfl dX4_number_39 ?_
          refine z_top (nI at_) hat ?_
          refine z_iload (pc := 42) gX 4 dX4_number_42 rfl ?_
          refine z_iadd (pc := 44) gX dX4_number_44 ?_
          refine z_top (nI (at_ + i)) (nI_add at_ i) ?_
          refine z_iald (pc := 45) gX (zI_ok gX hAX) (j := (at_ + i)) (n := 90) (f := tp) (zm 1 rfl) (by omega) (by decide) dX4_number_45 ?_
          refine z_iadd (pc := 46) gX dX4_number_46 ?_
          refine z_bipush (pc := 47) gX 48 dX4_number_47 (by decide) ?_
          refine z_isub (pc := 49) gX dX4_number_49 ?_
          refine z_istore (pc := 50) gX [1, 2, 3, 4, 5, 0] [(0, .ref o), (1, .int (nI pl)), (2, .int lo), (3, .int hi), (4, .int (nI i)), (5, .int (((10 * v) + (tp (at_ + i))) - 48))] dX4_number_50 (by decide) rfl ?_
          refine z_iinc (pc := 52) gX 4 (nI (i + 1)) [1, 2, 3, 4, 0, 5] [(0, .ref o), (1, .int (nI pl)), (2, .int lo), (3, .int hi), (4, .int (nI (i + 1))), (5, .int (((10 * v) + (tp (at_ + i))) - 48))] dX4_number_52 rfl (nI_1 _) (by decide) rfl ?_
          refine z_goto (pc := 55) gX 6 dX4_number_55 (by decide) ?_
          exact ih6 (i + 1) (((10 * v) + (tp (at_ + i))) - 48) (by omega) (by rw [dgF_s k26, k20, if_pos rfl] at hrem; omega) (by rw [hv]; rfl) (by omega)
  exact L6 ((3 - 0) + 1) 0 0 (by omega) (Nat.zero_add _) rfl (Nat.lt_succ_self _)
theorem hd_X4_number : zHd yX4_number 3 := by unfold zHd; decide +kernel

