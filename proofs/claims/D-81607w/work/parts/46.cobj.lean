set_option maxRecDepth 100000
/-! THE COMPONENT'S OBJECT, and its stairs as one segment each -/
def cOb (o : Nat) (ad : Nat → Nat) (a b tr : Nat) (x : Nat → Int32) : va_W := [(o, .inr (0, [.ref (ad 0), .ref (ad 1), .int (x 0), .int (x 1), .ref a, .ref b, .ref (ad 2), .int (x 2), .ref (ad 3), .ref tr, .int (x 3), .ref (ad 4), .ref (ad 5), .int (x 4)]))]
/-- a stair's state: its list's array (none: never grown), how many riders, which; the list's count of changes, how many went off, the order; the row of 25 -/
abbrev sT : Type := (Option Nat × Nat × (Nat → Nat)) × (Int32 × Int32 × (Nat → Int32)) × (Nat → Int32)
def alA (D : va_G) (da : Option Nat) : Nat := match da with
  | none => zEE D
  | some d => d
def alD (D : va_G) (da : Option Nat) (f : Nat → Option Nat) : va_W := match da with
  | none => []
  | some d => [(d, .inl (D.1 104, 10, .inr (.inr (.inr (.inr f)))))]
def thP (D : va_G) (sa : Nat → Nat) (h : sT) : va_W := [(sa 0, .inr (2, [.int (h.2.2 16), .int (h.2.2 1), .int (h.2.2 0), .int h.2.1.2.1, .ref (sa 1), .ref (sa 2), .ref (sa 3), .ref (sa 4)])), (sa 1, .inr (16, [.int h.2.1.1, .ref (alA D h.1.1), .int (nI h.1.2.1)])), (sa 2, .inl (D.1 100, 7, .inl (fun r => h.2.2 (9 + r)))), (sa 3, .inl (D.1 100, 7, .inl (fun r => h.2.2 (2 + r)))), (sa 4, .inl (D.1 100, 7, .inl h.2.1.2.2))] ++ alD D h.1.1 (rF h.1.2.2 h.1.2.1)
/-- any stair that may be overwritten -/
def tOK (h : sT) : Prop := (h.1.1 = none → h.1.2.1 = 0) ∧ h.1.2.1 ≤ 7
/-- a stair that is there: n riders, k steps -/
def gOK (T : va_W) (n k : Nat) (ra : Nat → Nat) (c : Nat → Int32) : Prop := 1 ≤ n ∧ n ≤ 7 ∧ c 17 = nI n ∧ c 16 = nI k ∧ 4 ≤ k ∧ k ≤ 12 ∧ (∀ q, q < n → c (9 + q) = 0 ∨ c (9 + q) = 1) ∧ rOK T n ra (fun r => c (18 + r))
/-- a stair that is there, or none yet -/
def sOK (T : va_W) (da : Option Nat) (n k : Nat) (ra : Nat → Nat) (c : Nat → Int32) : Prop := (n = 0 ∧ da = none ∧ c 16 = 0 ∧ c 17 = 0) ∨ ((∃ d, da = some d) ∧ gOK T n k ra c)
theorem tick_fr {n k : Nat} {c : Nat → Int32} (hn : n ≤ 7) : mTick n k c 16 = c 16 ∧ mTick n k c 1 = c 1 ∧ mTick n k c 17 = c 17 ∧ (fun r => mTick n k c (9 + r)) = (fun r => c (9 + r)) ∧ (fun r => mTick n k c (18 + r)) = (fun r => c (18 + r)) := by
  have h := FrT.tick (n := n) (k := k) (c := c) hn
  exact ⟨h 16 (by omega), h 1 (by omega), h 17 (by omega), funext fun r => h (9 + r) (by omega), funext fun r => h (18 + r) (by omega)⟩
theorem it_fr {n k : Nat} {c : Nat → Int32} (hn : n ≤ 7) (m : Nat) : itT n k c m 16 = c 16 ∧ itT n k c m 1 = c 1 ∧ itT n k c m 17 = c 17 ∧ (fun r => itT n k c m (9 + r)) = (fun r => c (9 + r)) ∧ (fun r => itT n k c m (18 + r)) = (fun r => c (18 + r)) := by
  have h := FrT.it (n := n) (k := k) (c := c) hn m
  exact ⟨h 16 (by omega), h 1 (by omega), h 17 (by omega), funext fun r => h (9 + r) (by omega), funext fun r => h (18 + r) (by omega)⟩
/-- what a further tick may ask of a row -/
def kOK (T : va_W) (n k : Nat) (ra : Nat → Nat) (c : Nat → Int32) : Prop := n ≤ 7 ∧ c 17 = nI n ∧ c 16 = nI k ∧ k ≤ 12 ∧ (∀ q, q < n → c (9 + q) = 0 ∨ c (9 + q) = 1) ∧ rOK T n ra (fun r => c (18 + r))
theorem gOK.k {T : va_W} {n k : Nat} {ra : Nat → Nat} {c : Nat → Int32} (h : gOK T n k ra c) : kOK T n k ra c := ⟨h.2.1, h.2.2.1, h.2.2.2.1, h.2.2.2.2.2.1, h.2.2.2.2.2.2.1, h.2.2.2.2.2.2.2⟩
theorem kOK.tick {T : va_W} {n k : Nat} {ra : Nat → Nat} {c : Nat → Int32} (h : kOK T n k ra c) : kOK T n k ra (mTick n k c) := by
  obtain ⟨e1, e2, e3, e4, e5⟩ := tick_fr (n := n) (k := k) (c := c) h.1
  refine ⟨h.1, e3.trans h.2.1, e1.trans h.2.2.1, h.2.2.2.1, fun q hq => ?_, ?_⟩
  · rw [show mTick n k c (9 + q) = c (9 + q) from congrFun e4 q]; exact h.2.2.2.2.1 q hq
  · rw [e5]; exact h.2.2.2.2.2
theorem kOK.it {T : va_W} {n k : Nat} {ra : Nat → Nat} {c : Nat → Int32} (h : kOK T n k ra c) : ∀ m, kOK T n k ra (itT n k c m)
  | 0 => h
  | m + 1 => (kOK.it h m).tick
theorem kOK.up {T : va_W} {n k : Nat} {ra : Nat → Nat} {c : Nat → Int32} {j : Nat} {v : Int32} (h : kOK T n k ra c) (hj : j < 9) : kOK T n k ra (upd c j v) := by
  refine ⟨h.1, (pk_un (by omega)).trans h.2.1, (pk_un (by omega)).trans h.2.2.1, h.2.2.2.1, fun q hq => ?_, ?_⟩
  · rw [pk_un (by omega)]; exact h.2.2.2.2.1 q hq
  · rw [show (fun r => upd c j v (18 + r)) = (fun r => c (18 + r)) from funext fun r => pk_un (by omega)]; exact h.2.2.2.2.2

theorem met_goOnC (l : Launch) (D : va_G) (B0 : Nat) (A : Nat → Prop) (sa : Nat → Nat) (wn : Int32) (md : Int32) (d : Nat) (n : Nat) (c : Nat → Int32) (od : Nat → Int32) (ra : Nat → Nat) (T : va_W) (k : Nat) (hK : kOK T n k ra c) : Met l yX2_goOn (ws_ yX2_goOn cX2_goOn 3 (some (.object "StepRiders$Stair"))) (zRm 9 0 0) (va_Pc [.ref (sa 0)] (zPre B0 D A [[(sa 0, .inr (2, [.int (c 16), .int (c 1), .int (c 0), .int wn, .ref (sa 1), .ref (sa 2), .ref (sa 3), .ref (sa 4)]))], [(sa 1, .inr (16, [.int md, .ref d, .int (nI n)]))], [(sa 2, .inl (D.1 100, 7, .inl (fun i_ => c (9 + i_))))], [(sa 3, .inl (D.1 100, 7, .inl (fun i_ => c (2 + i_))))], [(sa 4, .inl (D.1 100, 7, .inl od))], [(d, .inl (D.1 104, 10, .inr (.inr (.inr (.inr (rF ra n))))))], T])) (zQ (S := (Nat → Int32)) (fun u => (fun (od1 : Nat → Int32) => True) u) (fun u => (fun (od1 : Nat → Int32) => some (.ref (sa 0))) u) (fun u => (fun (od1 : Nat → Int32) => [[(sa 0, .inr (2, [.int ((mTick n k c) 16), .int ((mTick n k c) 1), .int ((mTick n k c) 0), .int (wn + nI (wnP (mPh1 n k c) n)), .ref (sa 1), .ref (sa 2), .ref (sa 3), .ref (sa 4)]))], [(sa 1, .inr (16, [.int md, .ref d, .int (nI n)]))], [(sa 2, .inl (D.1 100, 7, .inl (fun i_ => (mTick n k c) (9 + i_))))], [(sa 3, .inl (D.1 100, 7, .inl (fun i_ => (mTick n k c) (2 + i_))))], [(sa 4, .inl (D.1 100, 7, .inl od1))], [(d, .inl (D.1 104, 10, .inr (.inr (.inr (.inr (rF ra n))))))], T]) u) D A) 0 0 A := by
  have h := met_X2_goOn l D B0 A sa (c 16) (c 1) (c 0) wn md d n (fun r => c (9 + r)) (fun r => c (2 + r)) od ra (fun r => c (18 + r)) T k hK.1 hK.2.2.2.2.2 hK.2.2.2.2.1 hK.2.2.1 hK.2.2.2.1
  rw [pkC_eta hK.2.1] at h
  obtain ⟨e1, e2, e3, e4, e5⟩ := tick_fr (n := n) (k := k) (c := c) hK.1
  rw [e1, e2, e4, tick_0 hK.1]
  exact h
theorem met_goOn2C (l : Launch) (D : va_G) (B0 : Nat) (A : Nat → Prop) (sa : Nat → Nat) (wn : Int32) (md : Int32) (d : Nat) (n : Nat) (c : Nat → Int32) (od : Nat → Int32) (ra : Nat → Nat) (T : va_W) (k : Nat) (m : Nat) (hK : kOK T n k ra c) (hm : m ≤ 1000) : Met l yX2_goOn_2 (ws_ yX2_goOn_2 cX2_goOn_2 3 (some (.object "StepRiders$Stair"))) (zRm 10 0 0) (va_Pc [.ref (sa 0), .int (nI m)] (zPre B0 D A [[(sa 0, .inr (2, [.int (c 16), .int (c 1), .int (c 0), .int wn, .ref (sa 1), .ref (sa 2), .ref (sa 3), .ref (sa 4)]))], [(sa 1, .inr (16, [.int md, .ref d, .int (nI n)]))], [(sa 2, .inl (D.1 100, 7, .inl (fun i_ => c (9 + i_))))], [(sa 3, .inl (D.1 100, 7, .inl (fun i_ => c (2 + i_))))], [(sa 4, .inl (D.1 100, 7, .inl od))], [(d, .inl (D.1 104, 10, .inr (.inr (.inr (.inr (rF ra n))))))], T])) (zQ (S := (Nat → Int32) × Int32) (fun u => (fun (od1 : Nat → Int32) (wn1 : Int32) => True) u.1 u.2) (fun u => (fun (od1 : Nat → Int32) (wn1 : Int32) => some (.ref (sa 0))) u.1 u.2) (fun u => (fun (od1 : Nat → Int32) (wn1 : Int32) => [[(sa 0, .inr (2, [.int ((itT n k c m) 16), .int ((itT n k c m) 1), .int ((itT n k c m) 0), .int wn1, .ref (sa 1), .ref (sa 2), .ref (sa 3), .ref (sa 4)]))], [(sa 1, .inr (16, [.int md, .ref d, .int (nI n)]))], [(sa 2, .inl (D.1 100, 7, .inl (fun i_ => (itT n k c m) (9 + i_))))], [(sa 3, .inl (D.1 100, 7, .inl (fun i_ => (itT n k c m) (2 + i_))))], [(sa 4, .inl (D.1 100, 7, .inl od1))], [(d, .inl (D.1 104, 10, .inr (.inr (.inr (.inr (rF ra n))))))], T]) u.1 u.2) D A) 0 0 A := by
  have h := met_X2_goOn_2 l D B0 A sa (c 16) (c 1) (c 0) wn md d n (fun r => c (9 + r)) (fun r => c (2 + r)) od ra (fun r => c (18 + r)) T k m hK.1 hK.2.2.2.2.2 hK.2.2.2.2.1 hK.2.2.1 hK.2.2.2.1 hm
  rw [pkC_eta hK.2.1] at h
  obtain ⟨e1, e2, e3, e4, e5⟩ := it_fr (n := n) (k := k) (c := c) hK.1 m
  rw [e1, e2, e4]
  exact h
theorem met_clearsC (l : Launch) (D : va_G) (B0 : Nat) (A : Nat → Prop) (sa : Nat → Nat) (wn : Int32) (md : Int32) (d : Nat) (n : Nat) (c : Nat → Int32) (od : Nat → Int32) (ra : Nat → Nat) (T : va_W) (k : Nat) (hK : kOK T n k ra c) : Met l yX2_clears (ws_ yX2_clears cX2_clears 2 (some .int)) (zRm 10 0 0) (va_Pc [.ref (sa 0)] (zPre B0 D A [[(sa 0, .inr (2, [.int (c 16), .int (c 1), .int (c 0), .int wn, .ref (sa 1), .ref (sa 2), .ref (sa 3), .ref (sa 4)]))], [(sa 1, .inr (16, [.int md, .ref d, .int (nI n)]))], [(sa 2, .inl (D.1 100, 7, .inl (fun i_ => c (9 + i_))))], [(sa 3, .inl (D.1 100, 7, .inl (fun i_ => c (2 + i_))))], [(sa 4, .inl (D.1 100, 7, .inl od))], [(d, .inl (D.1 104, 10, .inr (.inr (.inr (.inr (rF ra n))))))], T])) (zQ (S := (Nat → Int32) × Int32 × (Nat → Int32) × Int32) (fun u => (fun (od1 : Nat → Int32) (wn1 : Int32) (wh1 : Nat → Int32) (tk1 : Int32) => True) u.1 u.2.1 u.2.2.1 u.2.2.2) (fun u => (fun (od1 : Nat → Int32) (wn1 : Int32) (wh1 : Nat → Int32) (tk1 : Int32) => some (.int (nI (clD n k 61 0 c)))) u.1 u.2.1 u.2.2.1 u.2.2.2) (fun u => (fun (od1 : Nat → Int32) (wn1 : Int32) (wh1 : Nat → Int32) (tk1 : Int32) => [[(sa 0, .inr (2, [.int (c 16), .int (c 1), .int tk1, .int wn1, .ref (sa 1), .ref (sa 2), .ref (sa 3), .ref (sa 4)]))], [(sa 1, .inr (16, [.int md, .ref d, .int (nI n)]))], [(sa 2, .inl (D.1 100, 7, .inl (fun i_ => c (9 + i_))))], [(sa 3, .inl (D.1 100, 7, .inl wh1))], [(sa 4, .inl (D.1 100, 7, .inl od1))], [(d, .inl (D.1 104, 10, .inr (.inr (.inr (.inr (rF ra n))))))], T]) u.1 u.2.1 u.2.2.1 u.2.2.2) D A) 0 0 A := by
  have h := met_X2_clears l D B0 A sa (c 16) (c 1) (c 0) wn md d n (fun r => c (9 + r)) (fun r => c (2 + r)) od ra (fun r => c (18 + r)) T k hK.1 hK.2.2.2.2.2 hK.2.2.2.2.1 hK.2.2.1 hK.2.2.2.1
  rw [pkC_eta hK.2.1] at h
  exact h
set_option maxHeartbeats 4000000 in
theorem met_X0_isThere (l : Launch) (D : va_G) (B0 : Nat) (o : Nat) (ad : Nat → Nat) (sa : Nat → Nat) (sb : Nat → Nat) (tr : Nat) (x : Nat → Int32) (st : Int32) (sp : Int32) (tk : Int32) (wn : Int32)  : Met l yX0_isThere (ws_ yX0_isThere cX0_isThere 1 (some .boolean)) (zRm 1 0 0) (va_Pc [.ref o] (zPreO B0 D [cOb o ad (sa 0) (sb 0) tr x, [(sa 0, .inr (2, [.int st, .int sp, .int tk, .int wn, .ref (sa 1), .ref (sa 2), .ref (sa 3), .ref (sa 4)]))]])) (zQo (S := Unit) (fun _ => True) (fun _ => some (.int (bI (decide (0 < st)))))) 0 0 (fun _ => False) := by
  refine z_entryo (by decide +kernel) (Nat.le_of_ble_eq_true rfl) (fun pX eX sX mX argsX blX mtX cX QX hQX gX => ?_)
  refine z_eq (lv₂ := [(0, .ref o)]) (st₂ := []) ?_ rfl rfl
  refine z_aload_n (pc := 0) gX 0 dX0_isThere_0 rfl rfl ?_
  refine z_get (pc := 1) gX (zIo_ok gX) (zm 0 rfl) (ci := 0) (C := RX0) (T := TX0) (N := 14) rfl in_X0 4 (by decide) q213 (fun _ h => h) (v := .ref (sa 0)) rfl dX0_isThere_1 ?_
  refine z_get (pc := 4) gX (zIo_ok gX) (zm 1 rfl) (ci := 2) (C := RX2) (T := TX2) (N := 8) rfl in_X2 0 (by decide) q147 (fun _ h => h) (v := .int st) rfl dX0_isThere_4 ?_
  refine z_if_le (pc := 7) gX 14 dX0_isThere_7 (by decide) (fun c7 => ?_) (fun c7 => ?_)
  · skip
    refine z_iconst (pc := 14) gX 0 dX0_isThere_14 (by decide) ?_
    exact z_rzo gX hQX (by simp only [bI]; grind) dX0_isThere_15
  · skip
    refine z_iconst (pc := 10) gX 1 dX0_isThere_10 (by decide) ?_
    refine z_goto (pc := 11) gX 15 dX0_isThere_11 (by decide) ?_
    exact z_rzo gX hQX (by simp only [bI]; grind) dX0_isThere_15
theorem hd_X0_isThere : zHd yX0_isThere 0 := by unfold zHd; decide +kernel

set_option maxHeartbeats 4000000 in
theorem met_X0_isRider (l : Launch) (D : va_G) (B0 : Nat) (o : Nat) (ad : Nat → Nat) (sa : Nat → Nat) (sb : Nat → Nat) (tr : Nat) (x : Nat → Int32) (st : Int32) (sp : Int32) (tk : Int32) (wn : Int32) (md : Int32) (d : Nat) (n : Nat) (r : Int32)  : Met l yX0_isRider (ws_ yX0_isRider cX0_isRider 2 (some .boolean)) (zRm 3 0 0) (va_Pc [.ref o, .int r] (zPreO B0 D [cOb o ad (sa 0) (sb 0) tr x, [(sa 0, .inr (2, [.int st, .int sp, .int tk, .int wn, .ref (sa 1), .ref (sa 2), .ref (sa 3), .ref (sa 4)]))], [(sa 1, .inr (16, [.int md, .ref d, .int (nI n)]))]])) (zQo (S := Unit) (fun _ => True) (fun _ => some (.int (bI (mIn r 0 (nI n - 1)))))) 0 0 (fun _ => False) := by
  refine z_entryo (by decide +kernel) (Nat.le_of_ble_eq_true rfl) (fun pX eX sX mX argsX blX mtX cX QX hQX gX => ?_)
  refine z_eq (lv₂ := [(0, .ref o), (1, .int r)]) (st₂ := []) ?_ rfl rfl
  refine z_iload_n (pc := 0) gX 1 dX0_isRider_0 rfl rfl ?_
  refine z_i2l (pc := 1) gX dX0_isRider_1 ?_
  refine z_lconst (pc := 2) gX 0 dX0_isRider_2 rfl ?_
  refine z_aload_n (pc := 3) gX 0 dX0_isRider_3 rfl rfl ?_
  refine z_get (pc := 4) gX (zIo_ok gX) (zm 0 rfl) (ci := 0) (C := RX0) (T := TX0) (N := 14) rfl in_X0 4 (by decide) q213 (fun _ h => h) (v := .ref (sa 0)) rfl dX0_isRider_4 ?_
  refine z_cOV (pc := 7) gX (zIo_ok gX) [] [.long 0, .long r.toInt64] [1, 2] (met_X2_many l D B0 sa st sp tk wn md d n ) q820 q653 q654 q49 q655 (zm 1 rfl) (ci := 2) rfl rfl hd_X2_many ⟨rfl, rfl⟩ ⟨(Nat.le_of_ble_eq_true rfl), (Nat.le_of_ble_eq_true rfl)⟩ rfl rfl rfl (Nat.le_of_ble_eq_true rfl) ⟨(Nat.le_of_ble_eq_true rfl), (Nat.le_of_ble_eq_true rfl)⟩ dX0_isRider_7 ?_
  intro _ hu7
  refine z_eq (lv₂ := [(0, .ref o), (1, .int r)]) (st₂ := [.int (nI n), .long 0, .long r.toInt64]) ?_ rfl rfl
  refine z_iconst (pc := 10) gX 1 dX0_isRider_10 (by decide) ?_
  refine z_isub (pc := 11) gX dX0_isRider_11 ?_
  refine z_i2l (pc := 12) gX dX0_isRider_12 ?_
  refine z_cOS (pc := 13) gX (zIo_ok gX) [.long r.toInt64, .long 0, .long (((nI n) - 1).toInt64)] [] [] (met_X0_isIn l D B0 r.toInt64 0 (((nI n) - 1).toInt64) ) q346 q347 q47 q348 hd_X0_isIn ⟨rfl, rfl⟩ ⟨(Nat.le_of_ble_eq_true rfl), (Nat.le_of_ble_eq_true rfl)⟩ rfl rfl rfl (Nat.le_of_ble_eq_true rfl) ⟨(Nat.le_of_ble_eq_true rfl), (Nat.le_of_ble_eq_true rfl)⟩ dX0_isRider_13 ?_
  intro _ hu13
  refine z_eq (lv₂ := [(0, .ref o), (1, .int r)]) (st₂ := [.int (bI (lIn r.toInt64 0 (((nI n) - 1).toInt64)))]) ?_ rfl rfl
  refine z_top (bI (mIn r 0 ((nI n) - 1))) (congrArg bI (lIn_eq rfl (by decide) rfl)) ?_
  exact z_rzo gX hQX rfl dX0_isRider_16
theorem hd_X0_isRider : zHd yX0_isRider 1 := by unfold zHd; decide +kernel

set_option maxHeartbeats 4000000 in
theorem met_X0_asNow (l : Launch) (D : va_G) (B0 : Nat) (A : Nat → Prop) (o : Nat) (ad : Nat → Nat) (sa : Nat → Nat) (sb : Nat → Nat) (tr : Nat) (x : Nat → Int32) (wn : Int32) (md : Int32) (d : Nat) (n : Nat) (c : Nat → Int32) (od : Nat → Int32) (ra : Nat → Nat) (T : va_W) (k : Nat) (ht : sT) (hG : gOK T n k ra c) (ht0 : tOK ht) : Met l yX0_asNow (ws_ yX0_asNow cX0_asNow 1 (some (.object "StepRiders$Stair"))) (zRm 7 1 10) (va_Pc [.ref o] (zPre B0 D A [cOb o ad (sa 0) (sb 0) tr x, [(sa 0, .inr (2, [.int (c 16), .int (c 1), .int (c 0), .int wn, .ref (sa 1), .ref (sa 2), .ref (sa 3), .ref (sa 4)]))], [(sa 1, .inr (16, [.int md, .ref d, .int (nI n)]))], [(sa 2, .inl (D.1 100, 7, .inl (fun i_ => c (9 + i_))))], [(sa 3, .inl (D.1 100, 7, .inl (fun i_ => c (2 + i_))))], [(sa 4, .inl (D.1 100, 7, .inl od))], [(d, .inl (D.1 104, 10, .inr (.inr (.inr (.inr (rF ra n))))))], thP D sb ht, T])) (zQ (S := Int32 × Nat × (Nat → Int32)) (fun u => (fun (zmd : Int32) (zd : Nat) (zod : Nat → Int32) => True) u.1 u.2.1 u.2.2) (fun u => (fun (zmd : Int32) (zd : Nat) (zod : Nat → Int32) => some (.ref (sb 0))) u.1 u.2.1 u.2.2) (fun u => (fun (zmd : Int32) (zd : Nat) (zod : Nat → Int32) => [cOb o ad (sa 0) (sb 0) tr x, [(sa 0, .inr (2, [.int (c 16), .int (c 1), .int (c 0), .int wn, .ref (sa 1), .ref (sa 2), .ref (sa 3), .ref (sa 4)]))], [(sa 1, .inr (16, [.int md, .ref d, .int (nI n)]))], [(sa 2, .inl (D.1 100, 7, .inl (fun i_ => c (9 + i_))))], [(sa 3, .inl (D.1 100, 7, .inl (fun i_ => c (2 + i_))))], [(sa 4, .inl (D.1 100, 7, .inl od))], [(d, .inl (D.1 104, 10, .inr (.inr (.inr (.inr (rF ra n))))))], [(sb 0, .inr (2, [.int (c 16), .int (c 1), .int (c 0), .int wn, .ref (sb 1), .ref (sb 2), .ref (sb 3), .ref (sb 4)]))], T, [(sb 1, .inr (16, [.int zmd, .ref zd, .int (nI n)]))], [(sb 2, .inl (D.1 100, 7, .inl (fun i_ => c (9 + i_))))], [(sb 3, .inl (D.1 100, 7, .inl (fun i_ => c (2 + i_))))], [(sb 4, .inl (D.1 100, 7, .inl zod))], [(zd, .inl (D.1 104, 10, .inr (.inr (.inr (.inr (rF ra n))))))]]) u.1 u.2.1 u.2.2) D A) 1 10 A := by
  refine z_entry (by decide +kernel) (Nat.le_of_ble_eq_true rfl) (fun pX eX sX mX argsX blX mtX cX QX hQX gX hAX hnm => ?_)
  refine z_eq (lv₂ := [(0, .ref o)]) (st₂ := []) ?_ rfl rfl
  obtain ⟨⟨za, zn, zra⟩, ⟨zmd, zwn, zod⟩, zc⟩ := ht
  cases za
  · skip
    have hzn : zn = 0 := ht0.1 rfl
    subst hzn
    refine z_ws [cOb o ad (sa 0) (sb 0) tr x, [(sa 0, .inr (2, [.int (c 16), .int (c 1), .int (c 0), .int wn, .ref (sa 1), .ref (sa 2), .ref (sa 3), .ref (sa 4)]))], [(sa 1, .inr (16, [.int md, .ref d, .int (nI n)]))], [(sa 2, .inl (D.1 100, 7, .inl (fun i_ => c (9 + i_))))], [(sa 3, .inl (D.1 100, 7, .inl (fun i_ => c (2 + i_))))], [(sa 4, .inl (D.1 100, 7, .inl od))], [(d, .inl (D.1 104, 10, .inr (.inr (.inr (.inr (rF ra n))))))], [(sb 0, .inr (2, [.int (zc 16), .int (zc 1), .int (zc 0), .int zwn, .ref (sb 1), .ref (sb 2), .ref (sb 3), .ref (sb 4)]))], [(sb 1, .inr (16, [.int zmd, .ref (zEE D), .int (nI 0)]))], [(sb 2, .inl (D.1 100, 7, .inl (fun i_ => zc (9 + i_))))], [(sb 3, .inl (D.1 100, 7, .inl (fun i_ => zc (2 + i_))))], [(sb 4, .inl (D.1 100, 7, .inl zod))], T] (List.Perm.refl _) ?_
    refine z_aload_n (pc := 0) gX 0 dX0_asNow_0 rfl rfl ?_
    refine z_get (pc := 1) gX (zI_ok gX hAX) (zm 0 rfl) (ci := 0) (C := RX0) (T := TX0) (N := 14) rfl in_X0 5 (by decide) q214 (fun _ h => h) (v := .ref (sb 0)) rfl dX0_asNow_1 ?_
    refine z_aload_n (pc := 4) gX 0 dX0_asNow_4 rfl rfl ?_
    refine z_get (pc := 5) gX (zI_ok gX hAX) (zm 0 rfl) (ci := 0) (C := RX0) (T := TX0) (N := 14) rfl in_X0 4 (by decide) q213 (fun _ h => h) (v := .ref (sa 0)) rfl dX0_asNow_5 ?_
    refine z_cMV (pc := 8) gX hAX [.ref (sa 0)] [] [7, 8, 9, 10, 11, 1, 2, 3, 4, 5, 6, 12] [0] (fun A1 => met_X2_becomeF l D B0 A1 sa (c 16) (c 1) (c 0) wn md d n (fun i_ => c (9 + i_)) (fun i_ => c (2 + i_)) od ra (fun r => c (18 + r)) T sb (zc 16) (zc 1) (zc 0) zwn zmd (fun i_ => zc (9 + i_)) (fun i_ => zc (2 + i_)) zod hG.2.1 hG.2.2.2.2.2.2.2 hG.1) q784 q785 q786 q49 q787 (zm 7 rfl) (ci := 2) rfl rfl hd_X2_become ⟨rfl, rfl⟩ ⟨(Nat.le_of_ble_eq_true rfl), (Nat.le_of_ble_eq_true rfl)⟩ rfl rfl (zpl 13 rfl (by decide +kernel)) rfl rfl (Nat.le_of_ble_eq_true rfl) ⟨(Nat.le_of_ble_eq_true rfl), (Nat.le_of_ble_eq_true rfl)⟩ dX0_asNow_8 ?_
    intro u8 hu8
    obtain ⟨md1_8, zd_8⟩ := u8
    refine z_re [13, 5, 6, 7, 8, 9, 10, 0, 1, 2, 3, 4, 11, 12] [cOb o ad (sa 0) (sb 0) tr x, [(sa 0, .inr (2, [.int (c 16), .int (c 1), .int (c 0), .int wn, .ref (sa 1), .ref (sa 2), .ref (sa 3), .ref (sa 4)]))], [(sa 1, .inr (16, [.int md, .ref d, .int (nI n)]))], [(sa 2, .inl (D.1 100, 7, .inl (fun i_ => c (9 + i_))))], [(sa 3, .inl (D.1 100, 7, .inl (fun i_ => c (2 + i_))))], [(sa 4, .inl (D.1 100, 7, .inl od))], [(d, .inl (D.1 104, 10, .inr (.inr (.inr (.inr (rF ra n))))))], [(sb 0, .inr (2, [.int (c 16), .int (c 1), .int (c 0), .int wn, .ref (sb 1), .ref (sb 2), .ref (sb 3), .ref (sb 4)]))], [(sb 1, .inr (16, [.int md1_8, .ref zd_8, .int (nI n)]))], [(sb 2, .inl (D.1 100, 7, .inl (fun i_ => c (9 + i_))))], [(sb 3, .inl (D.1 100, 7, .inl (fun i_ => c (2 + i_))))], [(sb 4, .inl (D.1 100, 7, .inl zod))], [(zd_8, .inl (D.1 104, 10, .inr (.inr (.inr (.inr (rF ra n))))))], T] rfl (zpl 14 rfl (by decide +kernel)) ?_
    refine z_norm [cOb o ad (sa 0) (sb 0) tr x, [(sa 0, .inr (2, [.int (c 16), .int (c 1), .int (c 0), .int wn, .ref (sa 1), .ref (sa 2), .ref (sa 3), .ref (sa 4)]))], [(sa 1, .inr (16, [.int md, .ref d, .int (nI n)]))], [(sa 2, .inl (D.1 100, 7, .inl (fun i_ => c (9 + i_))))], [(sa 3, .inl (D.1 100, 7, .inl (fun i_ => c (2 + i_))))], [(sa 4, .inl (D.1 100, 7, .inl od))], [(d, .inl (D.1 104, 10, .inr (.inr (.inr (.inr (rF ra n))))))], [(sb 0, .inr (2, [.int (c 16), .int (c 1), .int (c 0), .int wn, .ref (sb 1), .ref (sb 2), .ref (sb 3), .ref (sb 4)]))], [(sb 1, .inr (16, [.int md1_8, .ref zd_8, .int (nI n)]))], [(sb 2, .inl (D.1 100, 7, .inl (fun i_ => c (9 + i_))))], [(sb 3, .inl (D.1 100, 7, .inl (fun i_ => c (2 + i_))))], [(sb 4, .inl (D.1 100, 7, .inl zod))], [(zd_8, .inl (D.1 104, 10, .inr (.inr (.inr (.inr (rF ra n))))))], T] 1 10 ?_ rfl rfl rfl
    refine z_eq (lv₂ := [(0, .ref o)]) (st₂ := [.ref (sb 0)]) ?_ rfl rfl
    refine z_re [0, 1, 2, 3, 4, 5, 6, 7, 13, 8, 9, 10, 11, 12] [cOb o ad (sa 0) (sb 0) tr x, [(sa 0, .inr (2, [.int (c 16), .int (c 1), .int (c 0), .int wn, .ref (sa 1), .ref (sa 2), .ref (sa 3), .ref (sa 4)]))], [(sa 1, .inr (16, [.int md, .ref d, .int (nI n)]))], [(sa 2, .inl (D.1 100, 7, .inl (fun i_ => c (9 + i_))))], [(sa 3, .inl (D.1 100, 7, .inl (fun i_ => c (2 + i_))))], [(sa 4, .inl (D.1 100, 7, .inl od))], [(d, .inl (D.1 104, 10, .inr (.inr (.inr (.inr (rF ra n))))))], [(sb 0, .inr (2, [.int (c 16), .int (c 1), .int (c 0), .int wn, .ref (sb 1), .ref (sb 2), .ref (sb 3), .ref (sb 4)]))], T, [(sb 1, .inr (16, [.int md1_8, .ref zd_8, .int (nI n)]))], [(sb 2, .inl (D.1 100, 7, .inl (fun i_ => c (9 + i_))))], [(sb 3, .inl (D.1 100, 7, .inl (fun i_ => c (2 + i_))))], [(sb 4, .inl (D.1 100, 7, .inl zod))], [(zd_8, .inl (D.1 104, 10, .inr (.inr (.inr (.inr (rF ra n))))))]] rfl (zpl 14 rfl (by decide +kernel)) ?_
    exact z_aret gX hQX (by first | exact Or.inl ⟨_, rfl⟩ | exact Or.inr ⟨_, rfl⟩) (Or.inr ⟨_, rfl⟩) (md1_8, zd_8, zod) trivial rfl rfl (by first | decide | omega) (by first | decide | omega) dX0_asNow_11
  · skip
    rename_i zd
    refine z_ws [cOb o ad (sa 0) (sb 0) tr x, [(sa 0, .inr (2, [.int (c 16), .int (c 1), .int (c 0), .int wn, .ref (sa 1), .ref (sa 2), .ref (sa 3), .ref (sa 4)]))], [(sa 1, .inr (16, [.int md, .ref d, .int (nI n)]))], [(sa 2, .inl (D.1 100, 7, .inl (fun i_ => c (9 + i_))))], [(sa 3, .inl (D.1 100, 7, .inl (fun i_ => c (2 + i_))))], [(sa 4, .inl (D.1 100, 7, .inl od))], [(d, .inl (D.1 104, 10, .inr (.inr (.inr (.inr (rF ra n))))))], [(sb 0, .inr (2, [.int (zc 16), .int (zc 1), .int (zc 0), .int zwn, .ref (sb 1), .ref (sb 2), .ref (sb 3), .ref (sb 4)]))], [(sb 1, .inr (16, [.int zmd, .ref zd, .int (nI zn)]))], [(sb 2, .inl (D.1 100, 7, .inl (fun i_ => zc (9 + i_))))], [(sb 3, .inl (D.1 100, 7, .inl (fun i_ => zc (2 + i_))))], [(sb 4, .inl (D.1 100, 7, .inl zod))], [(zd, .inl (D.1 104, 10, .inr (.inr (.inr (.inr (rF zra zn))))))], T] (List.Perm.refl _) ?_
    refine z_aload_n (pc := 0) gX 0 dX0_asNow_0 rfl rfl ?_
    refine z_get (pc := 1) gX (zI_ok gX hAX) (zm 0 rfl) (ci := 0) (C := RX0) (T := TX0) (N := 14) rfl in_X0 5 (by decide) q214 (fun _ h => h) (v := .ref (sb 0)) rfl dX0_asNow_1 ?_
    refine z_aload_n (pc := 4) gX 0 dX0_asNow_4 rfl rfl ?_
    refine z_get (pc := 5) gX (zI_ok gX hAX) (zm 0 rfl) (ci := 0) (C := RX0) (T := TX0) (N := 14) rfl in_X0 4 (by decide) q213 (fun _ h => h) (v := .ref (sa 0)) rfl dX0_asNow_5 ?_
    refine z_cMV (pc := 8) gX hAX [.ref (sa 0)] [] [7, 8, 9, 10, 11, 12, 1, 2, 3, 4, 5, 6, 13] [0] (fun A1 => met_X2_becomeG l D B0 A1 sa (c 16) (c 1) (c 0) wn md d n (fun i_ => c (9 + i_)) (fun i_ => c (2 + i_)) od ra (fun r => c (18 + r)) T sb (zc 16) (zc 1) (zc 0) zwn zmd (fun i_ => zc (9 + i_)) (fun i_ => zc (2 + i_)) zod zd zn zra hG.2.1 hG.2.2.2.2.2.2.2 ht0.2) q784 q785 q786 q49 q787 (zm 7 rfl) (ci := 2) rfl rfl hd_X2_become ⟨rfl, rfl⟩ ⟨(Nat.le_of_ble_eq_true rfl), (Nat.le_of_ble_eq_true rfl)⟩ rfl rfl (zpl 14 rfl (by decide +kernel)) rfl rfl (Nat.le_of_ble_eq_true rfl) ⟨(Nat.le_of_ble_eq_true rfl), (Nat.le_of_ble_eq_true rfl)⟩ dX0_asNow_8 ?_
    intro u8 hu8
    obtain ⟨md1_8, rfl⟩ : ∃ z, z = u8 := ⟨_, rfl⟩
    refine z_re [13, 6, 7, 8, 9, 10, 11, 0, 1, 2, 3, 4, 5, 12] [cOb o ad (sa 0) (sb 0) tr x, [(sa 0, .inr (2, [.int (c 16), .int (c 1), .int (c 0), .int wn, .ref (sa 1), .ref (sa 2), .ref (sa 3), .ref (sa 4)]))], [(sa 1, .inr (16, [.int md, .ref d, .int (nI n)]))], [(sa 2, .inl (D.1 100, 7, .inl (fun i_ => c (9 + i_))))], [(sa 3, .inl (D.1 100, 7, .inl (fun i_ => c (2 + i_))))], [(sa 4, .inl (D.1 100, 7, .inl od))], [(d, .inl (D.1 104, 10, .inr (.inr (.inr (.inr (rF ra n))))))], [(sb 0, .inr (2, [.int (c 16), .int (c 1), .int (c 0), .int wn, .ref (sb 1), .ref (sb 2), .ref (sb 3), .ref (sb 4)]))], [(sb 1, .inr (16, [.int md1_8, .ref zd, .int (nI n)]))], [(sb 2, .inl (D.1 100, 7, .inl (fun i_ => c (9 + i_))))], [(sb 3, .inl (D.1 100, 7, .inl (fun i_ => c (2 + i_))))], [(sb 4, .inl (D.1 100, 7, .inl zod))], [(zd, .inl (D.1 104, 10, .inr (.inr (.inr (.inr (rF ra n))))))], T] rfl (zpl 14 rfl (by decide +kernel)) ?_
    refine z_eq (lv₂ := [(0, .ref o)]) (st₂ := [.ref (sb 0)]) ?_ rfl rfl
    refine z_re [0, 1, 2, 3, 4, 5, 6, 7, 13, 8, 9, 10, 11, 12] [cOb o ad (sa 0) (sb 0) tr x, [(sa 0, .inr (2, [.int (c 16), .int (c 1), .int (c 0), .int wn, .ref (sa 1), .ref (sa 2), .ref (sa 3), .ref (sa 4)]))], [(sa 1, .inr (16, [.int md, .ref d, .int (nI n)]))], [(sa 2, .inl (D.1 100, 7, .inl (fun i_ => c (9 + i_))))], [(sa 3, .inl (D.1 100, 7, .inl (fun i_ => c (2 + i_))))], [(sa 4, .inl (D.1 100, 7, .inl od))], [(d, .inl (D.1 104, 10, .inr (.inr (.inr (.inr (rF ra n))))))], [(sb 0, .inr (2, [.int (c 16), .int (c 1), .int (c 0), .int wn, .ref (sb 1), .ref (sb 2), .ref (sb 3), .ref (sb 4)]))], T, [(sb 1, .inr (16, [.int md1_8, .ref zd, .int (nI n)]))], [(sb 2, .inl (D.1 100, 7, .inl (fun i_ => c (9 + i_))))], [(sb 3, .inl (D.1 100, 7, .inl (fun i_ => c (2 + i_))))], [(sb 4, .inl (D.1 100, 7, .inl zod))], [(zd, .inl (D.1 104, 10, .inr (.inr (.inr (.inr (rF ra n))))))]] rfl (zpl 14 rfl (by decide +kernel)) ?_
    exact z_aret gX hQX (by first | exact Or.inl ⟨_, rfl⟩ | exact Or.inr ⟨_, rfl⟩) (Or.inr ⟨_, rfl⟩) (md1_8, zd, zod) trivial rfl rfl (by first | decide | omega) (by first | decide | omega) dX0_asNow_11
theorem hd_X0_asNow : zHd yX0_asNow 0 := by unfold zHd; decide +kernel

