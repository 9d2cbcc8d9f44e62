set_option maxRecDepth 100000
/-! THE STAIR of the component: it goes on, becomes another; riders are made -/
/-- how many went off in a ride of the first r -/
def wnP (c : Nat → Int32) : Nat → Nat
  | 0 => 0
  | r + 1 => wnP c r + (if mOn (mPh2 c r (2 + r)) = true ∧ ¬ mPh2 c r (2 + r) + mPh2 c r 1 < mPh2 c r 16 then 1 else 0)
theorem take_s {L : List Nat} {i : Nat} {c : Nat → Int32} {n : Nat} (h : i < L.length) : (L.take (i + 1)).foldl (mMv n) c = mMv n ((L.take i).foldl (mMv n) c) (L.getD i 0) := by
  rw [List.take_succ_eq_append_getElem h, List.foldl_append, List.getD_eq_getElem?_getD, List.getElem?_eq_getElem h]; rfl
theorem getD_mem {L : List Nat} {i : Nat} (h : i < L.length) : L.getD i 0 ∈ L := by
  rw [List.getD_eq_getElem?_getD, List.getElem?_eq_getElem h]; exact List.getElem_mem h
section TK
variable {st sp tk : Int32} {n k : Nat} {ln wh kd : Nat → Int32}
theorem ride_n {c : Nat → Int32} {r : Nat} (h : mOn (c (2 + r)) = false) : mRide c r = c := by simp only [mRide, h]; rw [if_neg (by decide)]
theorem ride_y {c : Nat → Int32} {r : Nat} (h : mOn (c (2 + r)) = true) (h2 : c (2 + r) + c 1 < c 16) : mRide c r = upd c (2 + r) (c (2 + r) + c 1) := by simp only [mRide, h]; rw [if_pos trivial, if_pos h2]
theorem ride_o {c : Nat → Int32} {r : Nat} (h : mOn (c (2 + r)) = true) (h2 : ¬ c (2 + r) + c 1 < c 16) : mRide c r = upd c (2 + r) 99 := by simp only [mRide, h]; rw [if_pos trivial, if_neg h2]
theorem tick_at {c : Nat → Int32} {q : Nat} : mTick n k c (2 + q) = mCome n (mPh2 (mPh1 n k c) n) (2 + q) := by simp only [mTick]; rw [pk_un (by omega)]
end TK
def tN (wh : Nat → Int32) (v : Int32) : Nat → Nat
  | 0 => 0
  | r + 1 => tN wh v r + (if wh r = v then 2 ^ r else 0)
def cW (wh : Nat → Int32) (v : Int32) : Nat → Nat
  | 0 => 0
  | r + 1 => cW wh v r + (if wh r = v then 1 else 0)
theorem tN_lt (wh : Nat → Int32) (v : Int32) : ∀ n, tN wh v n < 2 ^ n
  | 0 => Nat.one_pos
  | n + 1 => by
    have := tN_lt wh v n
    simp only [tN]
    rw [Nat.pow_succ]
    split <;> omega
theorem tN_q (c : Nat → Int32) : ∀ n, tN (fun r => c (2 + r)) (-1) n = qN c n
  | 0 => rfl
  | n + 1 => by simp only [tN, qN, tN_q c n]
theorem cW_c (c : Nat → Int32) (v : Int32) : ∀ n, cW (fun r => c (2 + r)) v n = cntV c v n
  | 0 => rfl
  | n + 1 => by simp only [cW, cntV, cW_c c v n]
theorem cW_pk {st sp tk : Int32} {m : Nat} {ln wh kd : Nat → Int32} {v : Int32} : ∀ n, n ≤ 7 → cntV (pkC st sp tk m ln wh kd) v n = cW wh v n
  | 0, _ => rfl
  | n + 1, h => by simp only [cW, cntV, cW_pk n (by omega), pkC_wh (show n < 7 by omega)]
def bc1 (x : Int32) : Int32 := x - ((x.toUInt32 >>> ((1 : Int32).toUInt32 &&& Int32.toUInt32 31)).toInt32 &&& 1431655765)
def bc2 (x : Int32) : Int32 := (x &&& 858993459) + ((x.toUInt32 >>> ((2 : Int32).toUInt32 &&& Int32.toUInt32 31)).toInt32 &&& 858993459)
def bc3 (x : Int32) : Int32 := (x + (x.toUInt32 >>> ((4 : Int32).toUInt32 &&& Int32.toUInt32 31)).toInt32) &&& 252645135
def bc4 (x : Int32) : Int32 := x + (x.toUInt32 >>> ((8 : Int32).toUInt32 &&& Int32.toUInt32 31)).toInt32
def bc5 (x : Int32) : Int32 := x + (x.toUInt32 >>> ((16 : Int32).toUInt32 &&& Int32.toUInt32 31)).toInt32
def popc (m : Nat) : Nat := m % 2 + m / 2 % 2 + m / 4 % 2 + m / 8 % 2 + m / 16 % 2 + m / 32 % 2 + m / 64 % 2
theorem bc_ok : ∀ m : Nat, m < 128 → bc5 (bc4 (bc3 (bc2 (bc1 (nI m))))) &&& 63 = nI (popc m) := by decide +kernel
theorem popc_s : ∀ r : Nat, r < 7 → ∀ a : Nat, a < 2 ^ r → popc (a + 2 ^ r) = popc a + 1 := by decide +kernel
theorem popc_t (wh : Nat → Int32) (v : Int32) : ∀ n, n ≤ 7 → popc (tN wh v n) = cW wh v n
  | 0, _ => by simp [tN, cW, popc]
  | n + 1, h => by
    simp only [tN, cW]
    split
    · rw [popc_s n (by omega) _ (tN_lt wh v n), popc_t wh v n (by omega)]
    · exact popc_t wh v n (by omega)
theorem cW_le (wh : Nat → Int32) (v : Int32) : ∀ n, cW wh v n ≤ n
  | 0 => Nat.le_refl 0
  | n + 1 => by have := cW_le wh v n; simp only [cW]; split <;> omega

set_option maxHeartbeats 4000000 in
theorem met_J20_bitCount (l : Launch) (D : va_G) (B0 : Nat) (m : Nat) (hm : m < 128) : Met l yJ20_bitCount (ws_ yJ20_bitCount cJ20_bitCount 1 (some .int)) (zRm 1 0 0) (va_Pc [.int (nI m)] (zPreO B0 D [])) (zQo (S := Unit) (fun _ => True) (fun _ => some (.int (nI (popc m))))) 0 0 (fun _ => False) := by
  refine z_entryo (by decide +kernel) (Nat.le_of_ble_eq_true rfl) (fun pX eX sX mX argsX blX mtX cX QX hQX gX => ?_)
  refine z_eq (lv₂ := [(0, .int (nI m))]) (st₂ := []) ?_ rfl rfl
  refine z_iload_n (pc := 0) gX 0 dJ20_bitCount_0 rfl rfl ?_
  refine z_iload_n (pc := 1) gX 0 dJ20_bitCount_1 rfl rfl ?_
  refine z_iconst (pc := 2) gX 1 dJ20_bitCount_2 (by decide) ?_
  refine z_iushr (pc := 3) gX dJ20_bitCount_3 ?_
  refine z_ldc_w (pc := 4) gX q936 dJ20_bitCount_4 ?_
  refine z_iand (pc := 7) gX dJ20_bitCount_7 ?_
  refine z_isub (pc := 8) gX dJ20_bitCount_8 ?_
  refine z_top (bc1 (nI m)) rfl ?_
  refine z_istore_n (pc := 9) gX [0] [(0, .int (bc1 (nI m)))] dJ20_bitCount_9 rfl (by decide) rfl ?_
  refine z_iload_n (pc := 10) gX 0 dJ20_bitCount_10 rfl rfl ?_
  refine z_ldc_w (pc := 11) gX q937 dJ20_bitCount_11 ?_
  refine z_iand (pc := 14) gX dJ20_bitCount_14 ?_
  refine z_iload_n (pc := 15) gX 0 dJ20_bitCount_15 rfl rfl ?_
  refine z_iconst (pc := 16) gX 2 dJ20_bitCount_16 (by decide) ?_
  refine z_iushr (pc := 17) gX dJ20_bitCount_17 ?_
  refine z_ldc_w (pc := 18) gX q937 dJ20_bitCount_18 ?_
  refine z_iand (pc := 21) gX dJ20_bitCount_21 ?_
  refine z_iadd (pc := 22) gX dJ20_bitCount_22 ?_
  refine z_top (bc2 (bc1 (nI m))) rfl ?_
  refine z_istore_n (pc := 23) gX [0] [(0, .int (bc2 (bc1 (nI m))))] dJ20_bitCount_23 rfl (by decide) rfl ?_
  refine z_iload_n (pc := 24) gX 0 dJ20_bitCount_24 rfl rfl ?_
  refine z_iload_n (pc := 25) gX 0 dJ20_bitCount_25 rfl rfl ?_
  refine z_iconst (pc := 26) gX 4 dJ20_bitCount_26 (by decide) ?_
  refine z_iushr (pc := 27) gX dJ20_bitCount_27 ?_
  refine z_iadd (pc := 28) gX dJ20_bitCount_28 ?_
  refine z_ldc_w (pc := 29) gX q938 dJ20_bitCount_29 ?_
  refine z_iand (pc := 32) gX dJ20_bitCount_32 ?_
  refine z_top (bc3 (bc2 (bc1 (nI m)))) rfl ?_
  refine z_istore_n (pc := 33) gX [0] [(0, .int (bc3 (bc2 (bc1 (nI m)))))] dJ20_bitCount_33 rfl (by decide) rfl ?_
  refine z_iload_n (pc := 34) gX 0 dJ20_bitCount_34 rfl rfl ?_
  refine z_iload_n (pc := 35) gX 0 dJ20_bitCount_35 rfl rfl ?_
  refine z_bipush (pc := 36) gX 8 dJ20_bitCount_36 (by decide) ?_
  refine z_iushr (pc := 38) gX dJ20_bitCount_38 ?_
  refine z_iadd (pc := 39) gX dJ20_bitCount_39 ?_
  refine z_top (bc4 (bc3 (bc2 (bc1 (nI m))))) rfl ?_
  refine z_istore_n (pc := 40) gX [0] [(0, .int (bc4 (bc3 (bc2 (bc1 (nI m))))))] dJ20_bitCount_40 rfl (by decide) rfl ?_
  refine z_iload_n (pc := 41) gX 0 dJ20_bitCount_41 rfl rfl ?_
  refine z_iload_n (pc := 42) gX 0 dJ20_bitCount_42 rfl rfl ?_
  refine z_bipush (pc := 43) gX 16 dJ20_bitCount_43 (by decide) ?_
  refine z_iushr (pc := 45) gX dJ20_bitCount_45 ?_
  refine z_iadd (pc := 46) gX dJ20_bitCount_46 ?_
  refine z_top (bc5 (bc4 (bc3 (bc2 (bc1 (nI m)))))) rfl ?_
  refine z_istore_n (pc := 47) gX [0] [(0, .int (bc5 (bc4 (bc3 (bc2 (bc1 (nI m)))))))] dJ20_bitCount_47 rfl (by decide) rfl ?_
  refine z_iload_n (pc := 48) gX 0 dJ20_bitCount_48 rfl rfl ?_
  refine z_bipush (pc := 49) gX 63 dJ20_bitCount_49 (by decide) ?_
  refine z_iand (pc := 51) gX dJ20_bitCount_51 ?_
  exact z_rio gX hQX (bc_ok m hm) dJ20_bitCount_52
theorem hd_J20_bitCount : zHd yJ20_bitCount 1 := by unfold zHd; decide +kernel

set_option maxHeartbeats 4000000 in
theorem met_X2_those (l : Launch) (D : va_G) (B0 : Nat) (sa : Nat → Nat) (st : Int32) (sp : Int32) (tk : Int32) (wn : Int32) (md : Int32) (d : Nat) (n : Nat) (wh : Nat → Int32) (v : Int32) (hn7 : n ≤ 7) : Met l yX2_those (ws_ yX2_those cX2_those 4 (some .int)) (zRm 3 0 0) (va_Pc [.ref (sa 0), .int v] (zPreO B0 D [[(sa 0, .inr (2, [.int st, .int sp, .int tk, .int wn, .ref (sa 1), .ref (sa 2), .ref (sa 3), .ref (sa 4)]))], [(sa 1, .inr (16, [.int md, .ref d, .int (nI n)]))], [(sa 3, .inl (D.1 100, 7, .inl wh))]])) (zQo (S := Unit) (fun _ => True) (fun _ => some (.int (nI (tN wh v n))))) 0 0 (fun _ => False) := by
  refine z_entryo (by decide +kernel) (Nat.le_of_ble_eq_true rfl) (fun pX eX sX mX argsX blX mtX cX QX hQX gX => ?_)
  refine z_eq (lv₂ := [(0, .ref (sa 0)), (1, .int v)]) (st₂ := []) ?_ rfl rfl
  refine z_iconst (pc := 0) gX 0 dX2_those_0 (by decide) ?_
  refine z_istore_n (pc := 1) gX [1, 2, 0] [(0, .ref (sa 0)), (1, .int v), (2, .int 0)] dX2_those_1 rfl (by decide) rfl ?_
  refine z_iconst (pc := 2) gX 0 dX2_those_2 (by decide) ?_
  refine z_istore_n (pc := 3) gX [1, 2, 3, 0] [(0, .ref (sa 0)), (1, .int v), (2, .int 0), (3, .int 0)] dX2_those_3 rfl (by decide) rfl ?_
  have L4 : ∀ (n4 : Nat) (r : Nat) (m : Nat), (r ≤ n) → (m = tN wh v r) → n - r < n4 → zJ pX l eX (zRm 3 0 0) sX mX argsX blX mtX cX QX 4 (zIo D sX [[(sa 0, .inr (2, [.int st, .int sp, .int tk, .int wn, .ref (sa 1), .ref (sa 2), .ref (sa 3), .ref (sa 4)]))], [(sa 1, .inr (16, [.int md, .ref d, .int (nI n)]))], [(sa 3, .inl (D.1 100, 7, .inl wh))]]) 0 0 4 [(0, .ref (sa 0)), (1, .int v), (2, .int (nI m)), (3, .int (nI r))] [] := by
    intro n4
    induction n4 with
    | zero => exact fun r m hr hm hm4 => absurd hm4 (Nat.not_lt_zero _)
    | succ n4 ih4 =>
      intro r m hr hm hm4
      refine z_iload_n (pc := 4) gX 3 dX2_those_4 rfl rfl ?_
      refine z_aload_n (pc := 5) gX 0 dX2_those_5 rfl rfl ?_
      refine z_cOV (pc := 6) gX (zIo_ok gX) [] [.int (nI r)] [0, 1] (met_X2_many l D B0 sa st sp tk wn md d n ) q847 q653 q654 q49 q655 (zm 0 rfl) (ci := 2) rfl rfl hd_X2_many ⟨rfl, rfl⟩ ⟨(Nat.le_of_ble_eq_true rfl), (Nat.le_of_ble_eq_true rfl)⟩ rfl rfl rfl (Nat.le_of_ble_eq_true rfl) ⟨(Nat.le_of_ble_eq_true rfl), (Nat.le_of_ble_eq_true rfl)⟩ dX2_those_6 ?_
      intro _ hu6
      refine z_eq (lv₂ := [(0, .ref (sa 0)), (1, .int v), (2, .int (nI m)), (3, .int (nI r))]) (st₂ := [.int (nI n), .int (nI r)]) ?_ rfl rfl
      refine z_icmp_ge (pc := 9) gX 38 dX2_those_9 (by decide) (fun c9 => ?_) (fun c9 => ?_)
      · skip
        have k9 : n ≤ r := (zn_le (a := n) (b := r) (by omega) (by omega)).mp c9
        refine z_iload_n (pc := 38) gX 2 dX2_those_38 rfl rfl ?_
        exact z_rio gX hQX (by rw [hm, show r = n by omega]) dX2_those_39
      · skip
        have k9 : r < n := (zn_nle (a := n) (b := r) (by omega) (by omega)).mp c9
        refine z_iload_n (pc := 12) gX 2 dX2_those_12 rfl rfl ?_
        refine z_aload_n (pc := 13) gX 0 dX2_those_13 rfl rfl ?_
        refine z_get (pc := 14) gX (zIo_ok gX) (zm 0 rfl) (ci := 2) (C := RX2) (T := TX2) (N := 8) rfl in_X2 6 (by decide) q167 (fun _ h => h) (v := .ref (sa 3)) rfl dX2_those_14 ?_
        refine z_iload_n (pc := 17) gX 3 dX2_those_17 rfl rfl ?_
        refine z_iald (pc := 18) gX (zIo_ok gX) (j := r) (n := 7) (f := wh) (zm 2 rfl) (by omega) (by decide) dX2_those_18 ?_
        refine z_iload_n (pc := 19) gX 1 dX2_those_19 rfl rfl ?_
        refine z_icmp_ne (pc := 20) gX 29 dX2_those_20 (by decide) (fun c20 => ?_) (fun c20 => ?_)
        · skip
          refine z_iconst (pc := 29) gX 0 dX2_those_29 (by decide) ?_
          refine z_ior (pc := 30) gX dX2_those_30 ?_
          refine z_top (nI m) (or_0 _) ?_
          refine z_istore_n (pc := 31) gX [1, 2, 0, 3] [(0, .ref (sa 0)), (1, .int v), (2, .int (nI m)), (3, .int (nI r))] dX2_those_31 rfl (by decide) rfl ?_
          refine z_iinc (pc := 32) gX 3 (nI (r + 1)) [1, 2, 3, 0] [(0, .ref (sa 0)), (1, .int v), (2, .int (nI m)), (3, .int (nI (r + 1)))] dX2_those_32 rfl (nI_1 _) (by decide) rfl ?_
          refine z_goto (pc := 35) gX 4 dX2_those_35 (by decide) ?_
          exact ih4 (r + 1) m (by omega) (by simp only [tN]; rw [← hm]; simp [c20]) (by omega)
        · skip
          refine z_iconst (pc := 23) gX 1 dX2_those_23 (by decide) ?_
          refine z_iload_n (pc := 24) gX 3 dX2_those_24 rfl rfl ?_
          refine z_ishl (pc := 25) gX dX2_those_25 ?_
          refine z_goto (pc := 26) gX 30 dX2_those_26 (by decide) ?_
          refine z_ior (pc := 30) gX dX2_those_30 ?_
          refine z_top (nI (m + 2 ^ r)) (by rw [shl_bit (by omega)]; exact or_low m (by have := pow7 hn7; have := tN_lt wh v r; have := Nat.pow_le_pow_right (n := 2) (by decide) hr; omega) r (by omega) (by rw [hm]; exact tN_lt wh v r)) ?_
          refine z_istore_n (pc := 31) gX [1, 2, 0, 3] [(0, .ref (sa 0)), (1, .int v), (2, .int (nI (m + 2 ^ r))), (3, .int (nI r))] dX2_those_31 rfl (by decide) rfl ?_
          refine z_iinc (pc := 32) gX 3 (nI (r + 1)) [1, 2, 3, 0] [(0, .ref (sa 0)), (1, .int v), (2, .int (nI (m + 2 ^ r))), (3, .int (nI (r + 1)))] dX2_those_32 rfl (nI_1 _) (by decide) rfl ?_
          refine z_goto (pc := 35) gX 4 dX2_those_35 (by decide) ?_
          exact ih4 (r + 1) (m + 2 ^ r) (by omega) (by simp only [tN]; rw [← hm]; simp [c20]) (by omega)
  exact L4 ((n - 0) + 1) 0 0 (by omega) rfl (Nat.lt_succ_self _)
theorem hd_X2_those : zHd yX2_those 1 := by unfold zHd; decide +kernel

set_option maxHeartbeats 4000000 in
theorem met_X2_offs (l : Launch) (D : va_G) (B0 : Nat) (sa : Nat → Nat) (st : Int32) (sp : Int32) (tk : Int32) (wn : Int32) (md : Int32) (d : Nat) (n : Nat) (wh : Nat → Int32) (hn7 : n ≤ 7) : Met l yX2_offs (ws_ yX2_offs cX2_offs 1 (some .int)) (zRm 4 0 0) (va_Pc [.ref (sa 0)] (zPreO B0 D [[(sa 0, .inr (2, [.int st, .int sp, .int tk, .int wn, .ref (sa 1), .ref (sa 2), .ref (sa 3), .ref (sa 4)]))], [(sa 1, .inr (16, [.int md, .ref d, .int (nI n)]))], [(sa 3, .inl (D.1 100, 7, .inl wh))]])) (zQo (S := Unit) (fun _ => True) (fun _ => some (.int (nI (cW wh 99 n))))) 0 0 (fun _ => False) := by
  refine z_entryo (by decide +kernel) (Nat.le_of_ble_eq_true rfl) (fun pX eX sX mX argsX blX mtX cX QX hQX gX => ?_)
  refine z_eq (lv₂ := [(0, .ref (sa 0))]) (st₂ := []) ?_ rfl rfl
  refine z_aload_n (pc := 0) gX 0 dX2_offs_0 rfl rfl ?_
  refine z_bipush (pc := 1) gX 99 dX2_offs_1 (by decide) ?_
  refine z_cOV (pc := 3) gX (zIo_ok gX) [.int 99] [] [0, 1, 2] (met_X2_those l D B0 sa st sp tk wn md d n wh 99 (by first | assumption | omega)) q929 q930 q931 q49 q932 (zm 0 rfl) (ci := 2) rfl rfl hd_X2_those ⟨rfl, rfl⟩ ⟨(Nat.le_of_ble_eq_true rfl), (Nat.le_of_ble_eq_true rfl)⟩ rfl rfl rfl (Nat.le_of_ble_eq_true rfl) ⟨(Nat.le_of_ble_eq_true rfl), (Nat.le_of_ble_eq_true rfl)⟩ dX2_offs_3 ?_
  intro _ hu3
  refine z_eq (lv₂ := [(0, .ref (sa 0))]) (st₂ := [.int (nI (tN wh 99 n))]) ?_ rfl rfl
  refine z_cOS (pc := 6) gX (zIo_ok gX) [.int (nI (tN wh 99 n))] [] [] (met_J20_bitCount l D B0 (tN wh 99 n) (by have := tN_lt wh 99 n; have := pow7 hn7; omega)) q933 q934 q81 q935 hd_J20_bitCount ⟨rfl, rfl⟩ ⟨(Nat.le_of_ble_eq_true rfl), (Nat.le_of_ble_eq_true rfl)⟩ rfl rfl rfl (Nat.le_of_ble_eq_true rfl) ⟨(Nat.le_of_ble_eq_true rfl), (Nat.le_of_ble_eq_true rfl)⟩ dX2_offs_6 ?_
  intro _ hu6
  refine z_eq (lv₂ := [(0, .ref (sa 0))]) (st₂ := [.int (nI (popc (tN wh 99 n)))]) ?_ rfl rfl
  exact z_rio gX hQX (by rw [popc_t wh 99 n hn7]) dX2_offs_9
theorem hd_X2_offs : zHd yX2_offs 0 := by unfold zHd; decide +kernel

set_option maxHeartbeats 4000000 in
theorem met_X2_goOn (l : Launch) (D : va_G) (B0 : Nat) (A : Nat → Prop) (sa : Nat → Nat) (st : Int32) (sp : Int32) (tk : Int32) (wn : Int32) (md : Int32) (d : Nat) (n : Nat) (ln : Nat → Int32) (wh : Nat → Int32) (od : Nat → Int32) (ra : Nat → Nat) (kd : Nat → Int32) (T : va_W) (k : Nat) (hn7 : n ≤ 7) (hR : rOK T n ra kd) (hl : ∀ q, q < n → ln q = 0 ∨ ln q = 1) (hst : st = nI k) (hk : k ≤ 12) : Met l yX2_goOn (ws_ yX2_goOn cX2_goOn 3 (some (.object "StepRiders$Stair"))) (zRm 9 0 0) (va_Pc [.ref (sa 0)] (zPre B0 D A [[(sa 0, .inr (2, [.int st, .int sp, .int tk, .int wn, .ref (sa 1), .ref (sa 2), .ref (sa 3), .ref (sa 4)]))], [(sa 1, .inr (16, [.int md, .ref d, .int (nI n)]))], [(sa 2, .inl (D.1 100, 7, .inl ln))], [(sa 3, .inl (D.1 100, 7, .inl wh))], [(sa 4, .inl (D.1 100, 7, .inl od))], [(d, .inl (D.1 104, 10, .inr (.inr (.inr (.inr (rF ra n))))))], T])) (zQ (S := (Nat → Int32)) (fun u => (fun (od1 : Nat → Int32) => True) u) (fun u => (fun (od1 : Nat → Int32) => some (.ref (sa 0))) u) (fun u => (fun (od1 : Nat → Int32) => [[(sa 0, .inr (2, [.int st, .int sp, .int (tk + 1), .int (wn + nI (wnP (mPh1 n k (pkC st sp tk n ln wh kd)) n)), .ref (sa 1), .ref (sa 2), .ref (sa 3), .ref (sa 4)]))], [(sa 1, .inr (16, [.int md, .ref d, .int (nI n)]))], [(sa 2, .inl (D.1 100, 7, .inl ln))], [(sa 3, .inl (D.1 100, 7, .inl (fun q => mTick n k (pkC st sp tk n ln wh kd) (2 + q))))], [(sa 4, .inl (D.1 100, 7, .inl od1))], [(d, .inl (D.1 104, 10, .inr (.inr (.inr (.inr (rF ra n))))))], T]) u) D A) 0 0 A := by
  refine z_entry (by decide +kernel) (Nat.le_of_ble_eq_true rfl) (fun pX eX sX mX argsX blX mtX cX QX hQX gX hAX hnm => ?_)
  refine z_eq (lv₂ := [(0, .ref (sa 0))]) (st₂ := []) ?_ rfl rfl
  refine z_aload_n (pc := 0) gX 0 dX2_goOn_0 rfl rfl ?_
  refine z_cMV (pc := 1) gX hAX [] [] [0, 1, 2, 3, 4] [5, 6] (fun A1 => met_X2_lineUp l D B0 A1 sa st sp tk wn md d n ln wh od k (by first | assumption | omega) (by first | assumption | omega) (by first | assumption | omega)) q843 q845 qs20 q49 q846 (zm 0 rfl) (ci := 2) rfl rfl hd_X2_lineUp ⟨rfl, rfl⟩ ⟨(Nat.le_of_ble_eq_true rfl), (Nat.le_of_ble_eq_true rfl)⟩ rfl rfl rfl rfl rfl (Nat.le_of_ble_eq_true rfl) ⟨(Nat.le_of_ble_eq_true rfl), (Nat.le_of_ble_eq_true rfl)⟩ dX2_goOn_1 ?_
  intro u1 hu1
  obtain ⟨od1_1, rfl⟩ : ∃ z, z = u1 := ⟨_, rfl⟩
  have hu1 : ∀ i, i < (ordS wh ln n k).length → od1_1 i = nI ((ordS wh ln n k).getD i 0) := hu1
  refine z_re [0, 1, 2, 3, 4, 5, 6] [[(sa 0, .inr (2, [.int st, .int sp, .int tk, .int wn, .ref (sa 1), .ref (sa 2), .ref (sa 3), .ref (sa 4)]))], [(sa 1, .inr (16, [.int md, .ref d, .int (nI n)]))], [(sa 2, .inl (D.1 100, 7, .inl ln))], [(sa 3, .inl (D.1 100, 7, .inl wh))], [(sa 4, .inl (D.1 100, 7, .inl od1_1))], [(d, .inl (D.1 104, 10, .inr (.inr (.inr (.inr (rF ra n))))))], T] rfl rfl ?_
  refine z_eq (lv₂ := [(0, .ref (sa 0))]) (st₂ := [.int (nI ((ordS wh ln n k).length))]) ?_ rfl rfl
  refine z_istore_n (pc := 4) gX [1, 0] [(0, .ref (sa 0)), (1, .int (nI ((ordS wh ln n k).length)))] dX2_goOn_4 rfl (by decide) rfl ?_
  refine z_iconst (pc := 5) gX 0 dX2_goOn_5 (by decide) ?_
  refine z_istore_n (pc := 6) gX [1, 2, 0] [(0, .ref (sa 0)), (1, .int (nI ((ordS wh ln n k).length))), (2, .int 0)] dX2_goOn_6 rfl (by decide) rfl ?_
  have hlen : (ordS wh ln n k).length ≤ 7 := Nat.le_trans (ordS_len (by omega)) hn7
  have L7 : ∀ (n7 : Nat) (i : Nat) (wh0 : Nat → Int32), (i ≤ (ordS wh ln n k).length) → ((pkC st sp tk n ln wh0 kd) = ((ordS wh ln n k).take i).foldl (mMv n) (pkC st sp tk n ln wh kd)) → (ordS wh ln n k).length - i < n7 → zJ pX l eX (zRm 9 0 0) sX mX argsX blX mtX cX QX 3 (zI D A sX [[(sa 0, .inr (2, [.int st, .int sp, .int tk, .int wn, .ref (sa 1), .ref (sa 2), .ref (sa 3), .ref (sa 4)]))], [(sa 1, .inr (16, [.int md, .ref d, .int (nI n)]))], [(sa 2, .inl (D.1 100, 7, .inl ln))], [(sa 3, .inl (D.1 100, 7, .inl wh0))], [(sa 4, .inl (D.1 100, 7, .inl od1_1))], [(d, .inl (D.1 104, 10, .inr (.inr (.inr (.inr (rF ra n))))))], T]) 0 0 7 [(0, .ref (sa 0)), (1, .int (nI ((ordS wh ln n k).length))), (2, .int (nI i))] [] := by
    intro n7
    induction n7 with
    | zero => exact fun i wh0 hi hw0 hm7 => absurd hm7 (Nat.not_lt_zero _)
    | succ n7 ih7 =>
      intro i wh0 hi hw0 hm7
      refine z_iload_n (pc := 7) gX 2 dX2_goOn_7 rfl rfl ?_
      refine z_iload_n (pc := 8) gX 1 dX2_goOn_8 rfl rfl ?_
      refine z_icmp_ge (pc := 9) gX 40 dX2_goOn_9 (by decide) (fun c9 => ?_) (fun c9 => ?_)
      · skip
        have k9 : (ordS wh ln n k).length ≤ i := (zn_le (a := (ordS wh ln n k).length) (b := i) (by omega) (by omega)).mp c9
        refine z_iconst (pc := 40) gX 0 dX2_goOn_40 (by decide) ?_
        refine z_istore_n (pc := 41) gX [1, 2, 0] [(0, .ref (sa 0)), (1, .int (nI ((ordS wh ln n k).length))), (2, .int 0)] dX2_goOn_41 rfl (by decide) rfl ?_
        have L42 : ∀ (n42 : Nat) (r : Nat) (wh2 : Nat → Int32) (wn2 : Int32), (r ≤ n) → ((pkC st sp tk n ln wh2 kd) = mPh2 (mPh1 n k (pkC st sp tk n ln wh kd)) r) → (wn2 = wn + nI (wnP (mPh1 n k (pkC st sp tk n ln wh kd)) r)) → n - r < n42 → zJ pX l eX (zRm 9 0 0) sX mX argsX blX mtX cX QX 3 (zI D A sX [[(sa 0, .inr (2, [.int st, .int sp, .int tk, .int wn2, .ref (sa 1), .ref (sa 2), .ref (sa 3), .ref (sa 4)]))], [(sa 1, .inr (16, [.int md, .ref d, .int (nI n)]))], [(sa 2, .inl (D.1 100, 7, .inl ln))], [(sa 3, .inl (D.1 100, 7, .inl wh2))], [(sa 4, .inl (D.1 100, 7, .inl od1_1))], [(d, .inl (D.1 104, 10, .inr (.inr (.inr (.inr (rF ra n))))))], T]) 0 0 42 [(0, .ref (sa 0)), (1, .int (nI ((ordS wh ln n k).length))), (2, .int (nI r))] [] := by
          intro n42
          induction n42 with
          | zero => exact fun r wh2 wn2 hr hw2 hwn2 hm42 => absurd hm42 (Nat.not_lt_zero _)
          | succ n42 ih42 =>
            intro r wh2 wn2 hr hw2 hwn2 hm42
            refine z_iload_n (pc := 42) gX 2 dX2_goOn_42 rfl rfl ?_
            refine z_aload_n (pc := 43) gX 0 dX2_goOn_43 rfl rfl ?_
            refine z_cOV (pc := 44) gX (zI_ok gX hAX) [] [.int (nI r)] [0, 1] (met_X2_many l D B0 sa st sp tk wn2 md d n ) q847 q653 q654 q49 q655 (zm 0 rfl) (ci := 2) rfl rfl hd_X2_many ⟨rfl, rfl⟩ ⟨(Nat.le_of_ble_eq_true rfl), (Nat.le_of_ble_eq_true rfl)⟩ rfl rfl rfl (Nat.le_of_ble_eq_true rfl) ⟨(Nat.le_of_ble_eq_true rfl), (Nat.le_of_ble_eq_true rfl)⟩ dX2_goOn_44 ?_
            intro _ hu44
            refine z_eq (lv₂ := [(0, .ref (sa 0)), (1, .int (nI ((ordS wh ln n k).length))), (2, .int (nI r))]) (st₂ := [.int (nI n), .int (nI r)]) ?_ rfl rfl
            refine z_icmp_ge (pc := 47) gX 114 dX2_goOn_47 (by decide) (fun c47 => ?_) (fun c47 => ?_)
            · skip
              have k47 : n ≤ r := (zn_le (a := n) (b := r) (by omega) (by omega)).mp c47
              have ern : r = n := by omega
              rw [ern] at hw2 hwn2
              refine z_aload_n (pc := 114) gX 0 dX2_goOn_114 rfl rfl ?_
              refine z_cMV (pc := 115) gX hAX [] [] [0, 1, 2, 3, 4, 5, 6] [] (fun A1 => met_X2_comes l D B0 A1 sa st sp tk wn2 md d n ln wh2 od1_1 ra kd T (by first | assumption | omega) (by first | assumption | omega) (by first | assumption | omega)) q921 q923 qs21 q49 q924 (zm 0 rfl) (ci := 2) rfl rfl hd_X2_comes ⟨rfl, rfl⟩ ⟨(Nat.le_of_ble_eq_true rfl), (Nat.le_of_ble_eq_true rfl)⟩ rfl rfl rfl rfl rfl (Nat.le_of_ble_eq_true rfl) ⟨(Nat.le_of_ble_eq_true rfl), (Nat.le_of_ble_eq_true rfl)⟩ dX2_goOn_115 ?_
              intro _ hu115
              refine z_re [0, 1, 2, 3, 4, 5, 6] [[(sa 0, .inr (2, [.int st, .int sp, .int tk, .int wn2, .ref (sa 1), .ref (sa 2), .ref (sa 3), .ref (sa 4)]))], [(sa 1, .inr (16, [.int md, .ref d, .int (nI n)]))], [(sa 2, .inl (D.1 100, 7, .inl ln))], [(sa 3, .inl (D.1 100, 7, .inl (comeW n (pkC st sp tk n ln wh2 kd) wh2)))], [(sa 4, .inl (D.1 100, 7, .inl od1_1))], [(d, .inl (D.1 104, 10, .inr (.inr (.inr (.inr (rF ra n))))))], T] rfl rfl ?_
              refine z_eq (lv₂ := [(0, .ref (sa 0)), (1, .int (nI ((ordS wh ln n k).length))), (2, .int (nI r))]) (st₂ := []) ?_ rfl rfl
              refine z_aload_n (pc := 118) gX 0 dX2_goOn_118 rfl rfl ?_
              refine z_dup (pc := 119) gX dX2_goOn_119 rfl ?_
              refine z_get (pc := 120) gX (zI_ok gX hAX) (zm 0 rfl) (ci := 2) (C := RX2) (T := TX2) (N := 8) rfl in_X2 2 (by decide) q152 (fun _ h => h) (v := .int tk) rfl dX2_goOn_120 ?_
              refine z_iconst (pc := 123) gX 1 dX2_goOn_123 (by decide) ?_
              refine z_iadd (pc := 124) gX dX2_goOn_124 ?_
              refine z_put (pc := 125) gX hAX 0 rfl (ci := 2) (C := RX2) (T := TX2) (N := 8) rfl in_X2 tyX2 tyX2_ok nmX2 2 (by decide) q152 (fun _ h => h) rfl (v := .int (tk + 1)) rfl rfl (Nat.le_of_ble_eq_true rfl) [[(sa 0, .inr (2, [.int st, .int sp, .int (tk + 1), .int wn2, .ref (sa 1), .ref (sa 2), .ref (sa 3), .ref (sa 4)]))], [(sa 1, .inr (16, [.int md, .ref d, .int (nI n)]))], [(sa 2, .inl (D.1 100, 7, .inl ln))], [(sa 3, .inl (D.1 100, 7, .inl (comeW n (pkC st sp tk n ln wh2 kd) wh2)))], [(sa 4, .inl (D.1 100, 7, .inl od1_1))], [(d, .inl (D.1 104, 10, .inr (.inr (.inr (.inr (rF ra n))))))], T] rfl dX2_goOn_125 ?_
              refine z_aload_n (pc := 128) gX 0 dX2_goOn_128 rfl rfl ?_
              refine z_ext 3 (fun q => mTick n k (pkC st sp tk n ln wh kd) (2 + q)) rfl (fun q hq => by rw [tick_at, ← hw2, ← pkC_come hn7, pkC_wh hq]) [[(sa 0, .inr (2, [.int st, .int sp, .int (tk + 1), .int wn2, .ref (sa 1), .ref (sa 2), .ref (sa 3), .ref (sa 4)]))], [(sa 1, .inr (16, [.int md, .ref d, .int (nI n)]))], [(sa 2, .inl (D.1 100, 7, .inl ln))], [(sa 3, .inl (D.1 100, 7, .inl (fun q => mTick n k (pkC st sp tk n ln wh kd) (2 + q))))], [(sa 4, .inl (D.1 100, 7, .inl od1_1))], [(d, .inl (D.1 104, 10, .inr (.inr (.inr (.inr (rF ra n))))))], T] rfl ?_
              exact z_aret gX hQX (by first | exact Or.inl ⟨_, rfl⟩ | exact Or.inr ⟨_, rfl⟩) (Or.inr ⟨_, rfl⟩) od1_1 trivial rfl (by rw [hwn2]) (by first | decide | omega) (by first | decide | omega) dX2_goOn_129
            · skip
              have k47 : r < n := (zn_nle (a := n) (b := r) (by omega) (by omega)).mp c47
              refine z_aload_n (pc := 50) gX 0 dX2_goOn_50 rfl rfl ?_
              refine z_iload_n (pc := 51) gX 2 dX2_goOn_51 rfl rfl ?_
              refine z_cOV (pc := 52) gX (zI_ok gX hAX) [.int (nI r)] [] [0, 3] (met_X2_isOn l D B0 sa st sp tk wn2 wh2 r (by first | assumption | omega)) q917 q918 q919 q49 q920 (zm 0 rfl) (ci := 2) rfl rfl hd_X2_isOn ⟨rfl, rfl⟩ ⟨(Nat.le_of_ble_eq_true rfl), (Nat.le_of_ble_eq_true rfl)⟩ rfl rfl rfl (Nat.le_of_ble_eq_true rfl) ⟨(Nat.le_of_ble_eq_true rfl), (Nat.le_of_ble_eq_true rfl)⟩ dX2_goOn_52 ?_
              intro _ hu52
              refine z_eq (lv₂ := [(0, .ref (sa 0)), (1, .int (nI ((ordS wh ln n k).length))), (2, .int (nI r))]) (st₂ := [.int (bI (mOn (wh2 r)))]) ?_ rfl rfl
              refine z_if_ne (pc := 55) gX 61 dX2_goOn_55 (by decide) (fun c55 => ?_) (fun c55 => ?_)
              · skip
                have k55 : (mOn (wh2 r)) = true := bI_ne0 c55
                refine z_aload_n (pc := 61) gX 0 dX2_goOn_61 rfl rfl ?_
                refine z_get (pc := 62) gX (zI_ok gX hAX) (zm 0 rfl) (ci := 2) (C := RX2) (T := TX2) (N := 8) rfl in_X2 6 (by decide) q167 (fun _ h => h) (v := .ref (sa 3)) rfl dX2_goOn_62 ?_
                refine z_iload_n (pc := 65) gX 2 dX2_goOn_65 rfl rfl ?_
                refine z_dup2 (pc := 66) gX dX2_goOn_66 rfl rfl ?_
                refine z_iald (pc := 67) gX (zI_ok gX hAX) (j := r) (n := 7) (f := wh2) (zm 3 rfl) (by omega) (by decide) dX2_goOn_67 ?_
                refine z_aload_n (pc := 68) gX 0 dX2_goOn_68 rfl rfl ?_
                refine z_get (pc := 69) gX (zI_ok gX hAX) (zm 0 rfl) (ci := 2) (C := RX2) (T := TX2) (N := 8) rfl in_X2 1 (by decide) q149 (fun _ h => h) (v := .int sp) rfl dX2_goOn_69 ?_
                refine z_iadd (pc := 72) gX dX2_goOn_72 ?_
                refine z_iast (pc := 73) gX hAX 3 (j := r) (n := 7) (f := wh2) rfl (by omega) (by decide) [[(sa 0, .inr (2, [.int st, .int sp, .int tk, .int wn2, .ref (sa 1), .ref (sa 2), .ref (sa 3), .ref (sa 4)]))], [(sa 1, .inr (16, [.int md, .ref d, .int (nI n)]))], [(sa 2, .inl (D.1 100, 7, .inl ln))], [(sa 3, .inl (D.1 100, 7, .inl (upd wh2 r ((wh2 r) + sp))))], [(sa 4, .inl (D.1 100, 7, .inl od1_1))], [(d, .inl (D.1 104, 10, .inr (.inr (.inr (.inr (rF ra n))))))], T] rfl dX2_goOn_73 ?_
                refine z_aload_n (pc := 74) gX 0 dX2_goOn_74 rfl rfl ?_
                refine z_get (pc := 75) gX (zI_ok gX hAX) (zm 0 rfl) (ci := 2) (C := RX2) (T := TX2) (N := 8) rfl in_X2 6 (by decide) q167 (fun _ h => h) (v := .ref (sa 3)) rfl dX2_goOn_75 ?_
                refine z_iload_n (pc := 78) gX 2 dX2_goOn_78 rfl rfl ?_
                refine z_iald (pc := 79) gX (zI_ok gX hAX) (j := r) (n := 7) (f := (upd wh2 r ((wh2 r) + sp))) (zm 3 rfl) (by omega) (by decide) dX2_goOn_79 ?_
                refine z_top (wh2 r + sp) pk_us ?_
                refine z_aload_n (pc := 80) gX 0 dX2_goOn_80 rfl rfl ?_
                refine z_get (pc := 81) gX (zI_ok gX hAX) (zm 0 rfl) (ci := 2) (C := RX2) (T := TX2) (N := 8) rfl in_X2 0 (by decide) q144 (fun _ h => h) (v := .int st) rfl dX2_goOn_81 ?_
                refine z_icmp_ge (pc := 84) gX 90 dX2_goOn_84 (by decide) (fun c84 => ?_) (fun c84 => ?_)
                · skip
                  refine z_aload_n (pc := 90) gX 0 dX2_goOn_90 rfl rfl ?_
                  refine z_get (pc := 91) gX (zI_ok gX hAX) (zm 0 rfl) (ci := 2) (C := RX2) (T := TX2) (N := 8) rfl in_X2 6 (by decide) q167 (fun _ h => h) (v := .ref (sa 3)) rfl dX2_goOn_91 ?_
                  refine z_iload_n (pc := 94) gX 2 dX2_goOn_94 rfl rfl ?_
                  refine z_bipush (pc := 95) gX 99 dX2_goOn_95 (by decide) ?_
                  refine z_iast (pc := 97) gX hAX 3 (j := r) (n := 7) (f := (upd wh2 r ((wh2 r) + sp))) rfl (by omega) (by decide) [[(sa 0, .inr (2, [.int st, .int sp, .int tk, .int wn2, .ref (sa 1), .ref (sa 2), .ref (sa 3), .ref (sa 4)]))], [(sa 1, .inr (16, [.int md, .ref d, .int (nI n)]))], [(sa 2, .inl (D.1 100, 7, .inl ln))], [(sa 3, .inl (D.1 100, 7, .inl (upd (upd wh2 r ((wh2 r) + sp)) r 99)))], [(sa 4, .inl (D.1 100, 7, .inl od1_1))], [(d, .inl (D.1 104, 10, .inr (.inr (.inr (.inr (rF ra n))))))], T] rfl dX2_goOn_97 ?_
                  refine z_aload_n (pc := 98) gX 0 dX2_goOn_98 rfl rfl ?_
                  refine z_dup (pc := 99) gX dX2_goOn_99 rfl ?_
                  refine z_get (pc := 100) gX (zI_ok gX hAX) (zm 0 rfl) (ci := 2) (C := RX2) (T := TX2) (N := 8) rfl in_X2 3 (by decide) q155 (fun _ h => h) (v := .int wn2) rfl dX2_goOn_100 ?_
                  refine z_iconst (pc := 103) gX 1 dX2_goOn_103 (by decide) ?_
                  refine z_iadd (pc := 104) gX dX2_goOn_104 ?_
                  refine z_put (pc := 105) gX hAX 0 rfl (ci := 2) (C := RX2) (T := TX2) (N := 8) rfl in_X2 tyX2 tyX2_ok nmX2 3 (by decide) q155 (fun _ h => h) rfl (v := .int (wn2 + 1)) rfl rfl (Nat.le_of_ble_eq_true rfl) [[(sa 0, .inr (2, [.int st, .int sp, .int tk, .int (wn2 + 1), .ref (sa 1), .ref (sa 2), .ref (sa 3), .ref (sa 4)]))], [(sa 1, .inr (16, [.int md, .ref d, .int (nI n)]))], [(sa 2, .inl (D.1 100, 7, .inl ln))], [(sa 3, .inl (D.1 100, 7, .inl (upd (upd wh2 r ((wh2 r) + sp)) r 99)))], [(sa 4, .inl (D.1 100, 7, .inl od1_1))], [(d, .inl (D.1 104, 10, .inr (.inr (.inr (.inr (rF ra n))))))], T] rfl dX2_goOn_105 ?_
                  refine z_iinc (pc := 108) gX 2 (nI (r + 1)) [1, 2, 0] [(0, .ref (sa 0)), (1, .int (nI ((ordS wh ln n k).length))), (2, .int (nI (r + 1)))] dX2_goOn_108 rfl (nI_1 _) (by decide) rfl ?_
                  refine z_goto (pc := 111) gX 42 dX2_goOn_111 (by decide) ?_
                  exact ih42 (r + 1) (upd (upd wh2 r ((wh2 r) + sp)) r 99) (wn2 + 1) (by omega) (by rw [upd_upd, pkC_up (by omega), hw2]; simp only [mPh2]; rw [ride_o (by rw [← hw2, pkC_wh (by omega)]; exact k55) (by rw [← hw2, pkC_wh (show r < 7 by omega), pkC_1, pkC_16]; exact Int32.not_lt.mpr c84)]) (by rw [hwn2, Int32.add_assoc]; simp only [wnP]; rw [if_pos ⟨by rw [← hw2, pkC_wh (show r < 7 by omega)]; exact k55, by rw [← hw2, pkC_wh (show r < 7 by omega), pkC_1, pkC_16]; exact Int32.not_lt.mpr c84⟩]; rw [nI_succ]) (by omega)
                · skip
                  refine z_goto (pc := 87) gX 108 dX2_goOn_87 (by decide) ?_
                  refine z_iinc (pc := 108) gX 2 (nI (r + 1)) [1, 2, 0] [(0, .ref (sa 0)), (1, .int (nI ((ordS wh ln n k).length))), (2, .int (nI (r + 1)))] dX2_goOn_108 rfl (nI_1 _) (by decide) rfl ?_
                  refine z_goto (pc := 111) gX 42 dX2_goOn_111 (by decide) ?_
                  exact ih42 (r + 1) (upd wh2 r ((wh2 r) + sp)) wn2 (by omega) (by rw [pkC_up (by omega), hw2]; simp only [mPh2]; rw [ride_y (by rw [← hw2, pkC_wh (by omega)]; exact k55) (by rw [← hw2, pkC_wh (show r < 7 by omega), pkC_1, pkC_16]; exact Int32.not_le.mp c84), ← hw2, pkC_wh (show r < 7 by omega), pkC_1]) (by rw [hwn2]; simp only [wnP]; rw [if_neg (fun z => by rw [← hw2, pkC_wh (show r < 7 by omega), pkC_1, pkC_16] at z; exact z.2 (Int32.not_le.mp c84))]; rfl) (by omega)
              · skip
                have k55 : (mOn (wh2 r)) = false := bI_eq0 c55
                refine z_goto (pc := 58) gX 108 dX2_goOn_58 (by decide) ?_
                refine z_iinc (pc := 108) gX 2 (nI (r + 1)) [1, 2, 0] [(0, .ref (sa 0)), (1, .int (nI ((ordS wh ln n k).length))), (2, .int (nI (r + 1)))] dX2_goOn_108 rfl (nI_1 _) (by decide) rfl ?_
                refine z_goto (pc := 111) gX 42 dX2_goOn_111 (by decide) ?_
                exact ih42 (r + 1) wh2 wn2 (by omega) (by rw [hw2]; simp only [mPh2]; rw [ride_n (by rw [← hw2, pkC_wh (by omega)]; exact k55)]) (by rw [hwn2]; simp only [wnP]; rw [if_neg (fun z => by rw [← hw2, pkC_wh (show r < 7 by omega), k55] at z; exact absurd z.1 (by decide))]; rfl) (by omega)
        exact L42 ((n - 0) + 1) 0 wh0 wn (by omega) (by rw [hw0, show i = (ordS wh ln n k).length by omega, List.take_length]; simp only [mPh1, ordC_pk hn7]; rfl) (by simp [wnP, nI]) (Nat.lt_succ_self _)
      · skip
        have k9 : i < (ordS wh ln n k).length := (zn_nle (a := (ordS wh ln n k).length) (b := i) (by omega) (by omega)).mp c9
        obtain ⟨rr, hrr⟩ : ∃ z, z = (ordS wh ln n k).getD i 0 := ⟨_, rfl⟩
        have hrn : rr < n := by rw [hrr]; exact ordS_lt k _ (getD_mem k9)
        refine z_aload_n (pc := 12) gX 0 dX2_goOn_12 rfl rfl ?_
        refine z_get (pc := 13) gX (zI_ok gX hAX) (zm 0 rfl) (ci := 2) (C := RX2) (T := TX2) (N := 8) rfl in_X2 4 (by decide) q157 (fun _ h => h) (v := .ref (sa 1)) rfl dX2_goOn_13 ?_
        refine z_aload_n (pc := 16) gX 0 dX2_goOn_16 rfl rfl ?_
        refine z_get (pc := 17) gX (zI_ok gX hAX) (zm 0 rfl) (ci := 2) (C := RX2) (T := TX2) (N := 8) rfl in_X2 7 (by decide) q172 (fun _ h => h) (v := .ref (sa 4)) rfl dX2_goOn_17 ?_
        refine z_iload_n (pc := 20) gX 2 dX2_goOn_20 rfl rfl ?_
        refine z_iald (pc := 21) gX (zI_ok gX hAX) (j := i) (n := 7) (f := od1_1) (zm 4 rfl) (by omega) (by decide) dX2_goOn_21 ?_
        refine z_top (nI rr) (by rw [hrr]; exact hu1 i k9) ?_
        refine z_cOF (n := 1) (pc := 22) gX (zI_ok gX hAX) [.int (nI rr)] [] [1, 5] (met_J2_get l D B0 (sa 1) md d n (rF ra n) rr (ra rr) (by first | assumption | omega) (by first | assumption | omega) (rF_lt hrn)) q799 q804 q802 q52 (gX.zk.face ⟨by decide +kernel, by decide +kernel⟩ q801 q800 q805 q803 q660) (by unfold zHd; decide +kernel) q806 (zm 1 rfl) (ci := 16) rfl ⟨rfl, rfl⟩ ⟨(Nat.le_of_ble_eq_true rfl), (Nat.le_of_ble_eq_true rfl)⟩ rfl rfl rfl (Nat.le_of_ble_eq_true rfl) ⟨(Nat.le_of_ble_eq_true rfl), (Nat.le_of_ble_eq_true rfl)⟩ dX2_goOn_22 ?_
        intro _ hu22
        refine z_eq (lv₂ := [(0, .ref (sa 0)), (1, .int (nI ((ordS wh ln n k).length))), (2, .int (nI i))]) (st₂ := [.ref (ra rr)]) ?_ rfl rfl
        obtain ⟨kk, hk1, hk5, hkd, hv⟩ := hR rr hrn
        rcases five hk1 hk5 with rfl | rfl | rfl | rfl | rfl
        · skip
          refine z_castY (pc := 27) gX (zI_ok gX hAX) (zpm 6 rfl hv) (ci := 7) rfl q817 (gX.zk.cast q1714) dX2_goOn_27 ?_
          refine z_aload_n (pc := 30) gX 0 dX2_goOn_30 rfl rfl ?_
          refine z_cMU (n := 1) (pc := 31) gX hAX [.ref (sa 0)] [] [0, 1, 2, 3, 4, 5, 6] [] (fun A1 => met_X8_goes l D B0 A1 sa st sp tk wn md d n ln wh0 od1_1 ra kd T (ra rr) rr 1 (by first | assumption | omega) (by first | assumption | omega) (by first | assumption | omega) (by first | assumption | omega) (by omega) (by omega) hkd hv) (gX.ts _ q848) (gX.ts _ q850) (va_Decl.abs (gX.zk.decl q849)) q893 q914 q73 ⟨by decide +kernel, by decide +kernel, by decide +kernel⟩ q894 (zpm 6 rfl hv) (ci := 7) rfl ⟨rfl, rfl⟩ ⟨(Nat.le_of_ble_eq_true rfl), (Nat.le_of_ble_eq_true rfl)⟩ rfl rfl rfl rfl rfl (Nat.le_of_ble_eq_true rfl) ⟨(Nat.le_of_ble_eq_true rfl), (Nat.le_of_ble_eq_true rfl)⟩ dX2_goOn_31 ?_
          intro _ hu31
          refine z_re [0, 1, 2, 3, 4, 5, 6] [[(sa 0, .inr (2, [.int st, .int sp, .int tk, .int wn, .ref (sa 1), .ref (sa 2), .ref (sa 3), .ref (sa 4)]))], [(sa 1, .inr (16, [.int md, .ref d, .int (nI n)]))], [(sa 2, .inl (D.1 100, 7, .inl ln))], [(sa 3, .inl (D.1 100, 7, .inl (fun q => mMv n (pkC st sp tk n ln wh0 kd) rr (2 + q))))], [(sa 4, .inl (D.1 100, 7, .inl od1_1))], [(d, .inl (D.1 104, 10, .inr (.inr (.inr (.inr (rF ra n))))))], T] rfl rfl ?_
          refine z_eq (lv₂ := [(0, .ref (sa 0)), (1, .int (nI ((ordS wh ln n k).length))), (2, .int (nI i))]) (st₂ := []) ?_ rfl rfl
          refine z_iinc (pc := 34) gX 2 (nI (i + 1)) [1, 2, 0] [(0, .ref (sa 0)), (1, .int (nI ((ordS wh ln n k).length))), (2, .int (nI (i + 1)))] dX2_goOn_34 rfl (nI_1 _) (by decide) rfl ?_
          refine z_goto (pc := 37) gX 7 dX2_goOn_37 (by decide) ?_
          exact ih7 (i + 1) (fun q => mMv n (pkC st sp tk n ln wh0 kd) rr (2 + q)) (by omega) (by rw [pkC_proj (Fr.mv (by omega)), hw0, take_s k9, ← hrr]) (by omega)
        · skip
          refine z_castY (pc := 27) gX (zI_ok gX hAX) (zpm 6 rfl hv) (ci := 8) rfl q817 (gX.zk.cast q1716) dX2_goOn_27 ?_
          refine z_aload_n (pc := 30) gX 0 dX2_goOn_30 rfl rfl ?_
          refine z_cMU (n := 1) (pc := 31) gX hAX [.ref (sa 0)] [] [0, 1, 2, 3, 4, 5, 6] [] (fun A1 => met_X8_goes l D B0 A1 sa st sp tk wn md d n ln wh0 od1_1 ra kd T (ra rr) rr 2 (by first | assumption | omega) (by first | assumption | omega) (by first | assumption | omega) (by first | assumption | omega) (by omega) (by omega) hkd hv) (gX.ts _ q848) (gX.ts _ q850) (va_Decl.abs (gX.zk.decl q849)) q893 q916 q73 ⟨by decide +kernel, by decide +kernel, by decide +kernel⟩ q894 (zpm 6 rfl hv) (ci := 8) rfl ⟨rfl, rfl⟩ ⟨(Nat.le_of_ble_eq_true rfl), (Nat.le_of_ble_eq_true rfl)⟩ rfl rfl rfl rfl rfl (Nat.le_of_ble_eq_true rfl) ⟨(Nat.le_of_ble_eq_true rfl), (Nat.le_of_ble_eq_true rfl)⟩ dX2_goOn_31 ?_
          intro _ hu31
          refine z_re [0, 1, 2, 3, 4, 5, 6] [[(sa 0, .inr (2, [.int st, .int sp, .int tk, .int wn, .ref (sa 1), .ref (sa 2), .ref (sa 3), .ref (sa 4)]))], [(sa 1, .inr (16, [.int md, .ref d, .int (nI n)]))], [(sa 2, .inl (D.1 100, 7, .inl ln))], [(sa 3, .inl (D.1 100, 7, .inl (fun q => mMv n (pkC st sp tk n ln wh0 kd) rr (2 + q))))], [(sa 4, .inl (D.1 100, 7, .inl od1_1))], [(d, .inl (D.1 104, 10, .inr (.inr (.inr (.inr (rF ra n))))))], T] rfl rfl ?_
          refine z_eq (lv₂ := [(0, .ref (sa 0)), (1, .int (nI ((ordS wh ln n k).length))), (2, .int (nI i))]) (st₂ := []) ?_ rfl rfl
          refine z_iinc (pc := 34) gX 2 (nI (i + 1)) [1, 2, 0] [(0, .ref (sa 0)), (1, .int (nI ((ordS wh ln n k).length))), (2, .int (nI (i + 1)))] dX2_goOn_34 rfl (nI_1 _) (by decide) rfl ?_
          refine z_goto (pc := 37) gX 7 dX2_goOn_37 (by decide) ?_
          exact ih7 (i + 1) (fun q => mMv n (pkC st sp tk n ln wh0 kd) rr (2 + q)) (by omega) (by rw [pkC_proj (Fr.mv (by omega)), hw0, take_s k9, ← hrr]) (by omega)
        · skip
          refine z_castY (pc := 27) gX (zI_ok gX hAX) (zpm 6 rfl hv) (ci := 9) rfl q817 (gX.zk.cast q1713) dX2_goOn_27 ?_
          refine z_aload_n (pc := 30) gX 0 dX2_goOn_30 rfl rfl ?_
          refine z_cMU (n := 1) (pc := 31) gX hAX [.ref (sa 0)] [] [0, 1, 2, 3, 4, 5, 6] [] (fun A1 => met_X8_goes l D B0 A1 sa st sp tk wn md d n ln wh0 od1_1 ra kd T (ra rr) rr 3 (by first | assumption | omega) (by first | assumption | omega) (by first | assumption | omega) (by first | assumption | omega) (by omega) (by omega) hkd hv) (gX.ts _ q848) (gX.ts _ q850) (va_Decl.abs (gX.zk.decl q849)) q893 q892 q73 ⟨by decide +kernel, by decide +kernel, by decide +kernel⟩ q894 (zpm 6 rfl hv) (ci := 9) rfl ⟨rfl, rfl⟩ ⟨(Nat.le_of_ble_eq_true rfl), (Nat.le_of_ble_eq_true rfl)⟩ rfl rfl rfl rfl rfl (Nat.le_of_ble_eq_true rfl) ⟨(Nat.le_of_ble_eq_true rfl), (Nat.le_of_ble_eq_true rfl)⟩ dX2_goOn_31 ?_
          intro _ hu31
          refine z_re [0, 1, 2, 3, 4, 5, 6] [[(sa 0, .inr (2, [.int st, .int sp, .int tk, .int wn, .ref (sa 1), .ref (sa 2), .ref (sa 3), .ref (sa 4)]))], [(sa 1, .inr (16, [.int md, .ref d, .int (nI n)]))], [(sa 2, .inl (D.1 100, 7, .inl ln))], [(sa 3, .inl (D.1 100, 7, .inl (fun q => mMv n (pkC st sp tk n ln wh0 kd) rr (2 + q))))], [(sa 4, .inl (D.1 100, 7, .inl od1_1))], [(d, .inl (D.1 104, 10, .inr (.inr (.inr (.inr (rF ra n))))))], T] rfl rfl ?_
          refine z_eq (lv₂ := [(0, .ref (sa 0)), (1, .int (nI ((ordS wh ln n k).length))), (2, .int (nI i))]) (st₂ := []) ?_ rfl rfl
          refine z_iinc (pc := 34) gX 2 (nI (i + 1)) [1, 2, 0] [(0, .ref (sa 0)), (1, .int (nI ((ordS wh ln n k).length))), (2, .int (nI (i + 1)))] dX2_goOn_34 rfl (nI_1 _) (by decide) rfl ?_
          refine z_goto (pc := 37) gX 7 dX2_goOn_37 (by decide) ?_
          exact ih7 (i + 1) (fun q => mMv n (pkC st sp tk n ln wh0 kd) rr (2 + q)) (by omega) (by rw [pkC_proj (Fr.mv (by omega)), hw0, take_s k9, ← hrr]) (by omega)
        · skip
          refine z_castY (pc := 27) gX (zI_ok gX hAX) (zpm 6 rfl hv) (ci := 10) rfl q817 (gX.zk.cast q1715) dX2_goOn_27 ?_
          refine z_aload_n (pc := 30) gX 0 dX2_goOn_30 rfl rfl ?_
          refine z_cOU (n := 1) (pc := 31) gX (zI_ok gX hAX) [.ref (sa 0)] [] [] (met_X11_goes l D B0 (ra rr) (sa 0) ) (gX.ts _ q848) (gX.ts _ q850) (va_Decl.abs (gX.zk.decl q849)) q855 q915 q76 ⟨by decide +kernel, by decide +kernel, by decide +kernel⟩ q856 (zpm 6 rfl hv) (ci := 10) rfl ⟨rfl, rfl⟩ ⟨(Nat.le_of_ble_eq_true rfl), (Nat.le_of_ble_eq_true rfl)⟩ rfl rfl rfl (Nat.le_of_ble_eq_true rfl) ⟨(Nat.le_of_ble_eq_true rfl), (Nat.le_of_ble_eq_true rfl)⟩ dX2_goOn_31 ?_
          intro _ hu31
          refine z_eq (lv₂ := [(0, .ref (sa 0)), (1, .int (nI ((ordS wh ln n k).length))), (2, .int (nI i))]) (st₂ := []) ?_ rfl rfl
          refine z_iinc (pc := 34) gX 2 (nI (i + 1)) [1, 2, 0] [(0, .ref (sa 0)), (1, .int (nI ((ordS wh ln n k).length))), (2, .int (nI (i + 1)))] dX2_goOn_34 rfl (nI_1 _) (by decide) rfl ?_
          refine z_goto (pc := 37) gX 7 dX2_goOn_37 (by decide) ?_
          exact ih7 (i + 1) wh0 (by omega) (by rw [hw0, take_s k9, ← hrr, ← hw0, mv_4 hkd]) (by omega)
        · skip
          refine z_castY (pc := 27) gX (zI_ok gX hAX) (zpm 6 rfl hv) (ci := 11) rfl q817 (gX.zk.cast q1712) dX2_goOn_27 ?_
          refine z_aload_n (pc := 30) gX 0 dX2_goOn_30 rfl rfl ?_
          refine z_cMU (n := 1) (pc := 31) gX hAX [.ref (sa 0)] [] [0, 1, 2, 3, 4, 5, 6] [] (fun A1 => met_X12_goes l D B0 A1 sa st sp tk wn md d n ln wh0 od1_1 ra kd T (ra rr) rr (by first | assumption | omega) (by first | assumption | omega) (by first | assumption | omega) (by first | assumption | omega) hkd hv) (gX.ts _ q848) (gX.ts _ q850) (va_Decl.abs (gX.zk.decl q849)) q852 q851 q77 ⟨by decide +kernel, by decide +kernel, by decide +kernel⟩ q853 (zpm 6 rfl hv) (ci := 11) rfl ⟨rfl, rfl⟩ ⟨(Nat.le_of_ble_eq_true rfl), (Nat.le_of_ble_eq_true rfl)⟩ rfl rfl rfl rfl rfl (Nat.le_of_ble_eq_true rfl) ⟨(Nat.le_of_ble_eq_true rfl), (Nat.le_of_ble_eq_true rfl)⟩ dX2_goOn_31 ?_
          intro _ hu31
          refine z_re [0, 1, 2, 3, 4, 5, 6] [[(sa 0, .inr (2, [.int st, .int sp, .int tk, .int wn, .ref (sa 1), .ref (sa 2), .ref (sa 3), .ref (sa 4)]))], [(sa 1, .inr (16, [.int md, .ref d, .int (nI n)]))], [(sa 2, .inl (D.1 100, 7, .inl ln))], [(sa 3, .inl (D.1 100, 7, .inl (fun q => mMv n (pkC st sp tk n ln wh0 kd) rr (2 + q))))], [(sa 4, .inl (D.1 100, 7, .inl od1_1))], [(d, .inl (D.1 104, 10, .inr (.inr (.inr (.inr (rF ra n))))))], T] rfl rfl ?_
          refine z_eq (lv₂ := [(0, .ref (sa 0)), (1, .int (nI ((ordS wh ln n k).length))), (2, .int (nI i))]) (st₂ := []) ?_ rfl rfl
          refine z_iinc (pc := 34) gX 2 (nI (i + 1)) [1, 2, 0] [(0, .ref (sa 0)), (1, .int (nI ((ordS wh ln n k).length))), (2, .int (nI (i + 1)))] dX2_goOn_34 rfl (nI_1 _) (by decide) rfl ?_
          refine z_goto (pc := 37) gX 7 dX2_goOn_37 (by decide) ?_
          exact ih7 (i + 1) (fun q => mMv n (pkC st sp tk n ln wh0 kd) rr (2 + q)) (by omega) (by rw [pkC_proj (Fr.mv (by omega)), hw0, take_s k9, ← hrr]) (by omega)
  exact L7 (((ordS wh ln n k).length - 0) + 1) 0 wh (by omega) rfl (Nat.lt_succ_self _)
theorem hd_X2_goOn : zHd yX2_goOn 0 := by unfold zHd; decide +kernel

