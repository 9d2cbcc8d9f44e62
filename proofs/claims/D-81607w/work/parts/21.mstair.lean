set_option maxRecDepth 100000
/-! THE REFERENCE: a stair as 25 numbers c: c 0 the tick, c 1 the speed, c (2 + r) where, c (9 + r) lane, c 16 steps, c 17 riders, c (18 + r) kinds -/
def mMeets (c : Nat → Int32) (r q : Nat) (lane : Int32) : Bool := decide (4 ≤ c (18 + r)) || decide (4 ≤ c (18 + q)) || decide (c (9 + q) = lane)
def mFreeTo (c : Nat → Int32) (r : Nat) (step lane : Int32) : Nat → Bool
  | 0 => true
  | q + 1 => mFreeTo c r step lane q && (decide (q = r) || !decide (c (2 + q) = step) || !mMeets c r q lane)
def mOn (v : Int32) : Bool := !decide (v = -1) && !decide (v = 99)
def mMay (n : Nat) (c : Nat → Int32) (r : Nat) (b : Int32) : Bool := mIn (c (2 + r) + b) 0 (c 16 - 1) && mFreeTo c r (c (2 + r) + b) (c (9 + r)) n
def mGo (n : Nat) (c : Nat → Int32) (r : Nat) (b : Int32) : Nat → Int32 := upd c (2 + r) (c (2 + r) + (if mMay n c r b = true then b else 0))
def mMv (n : Nat) (c : Nat → Int32) (r : Nat) : Nat → Int32 :=
  if c (18 + r) = 2 then mGo n c r 1
  else if c (18 + r) = 3 then (if mMay n c r 1 = true then mGo n (mGo n c r 1) r 1 else mGo n c r 1)
  else if c (18 + r) = 5 ∧ c 0 - c 0 / 2 * 2 = 1 then mGo n c r (-1)
  else c
/-- nothing but where riders are has changed -/
def Fr (c c1 : Nat → Int32) : Prop := ∀ j : Nat, (j < 2 ∨ 9 ≤ j) → c1 j = c j
theorem Fr.rf {c : Nat → Int32} : Fr c c := fun _ _ => rfl
theorem Fr.tr {a b c : Nat → Int32} (h1 : Fr a b) (h2 : Fr b c) : Fr a c := fun j hj => (h2 j hj).trans (h1 j hj)
theorem Fr.up {c : Nat → Int32} {r : Nat} {v : Int32} (hr : r < 7) : Fr c (upd c (2 + r) v) := fun j hj => by simp only [upd]; rw [if_neg (by omega)]
theorem Fr.go {n : Nat} {c : Nat → Int32} {r : Nat} {b : Int32} (hr : r < 7) : Fr c (mGo n c r b) := Fr.up hr
theorem Fr.mv {n : Nat} {c : Nat → Int32} {r : Nat} (hr : r < 7) : Fr c (mMv n c r) := by
  unfold mMv
  split
  · exact Fr.go hr
  · split
    · split
      · exact (Fr.go hr).tr (Fr.go hr)
      · exact Fr.go hr
    · split
      · exact Fr.go hr
      · exact Fr.rf

set_option maxHeartbeats 4000000 in
theorem met_X4_isFree (l : Launch) (D : va_G) (B0 : Nat) (a : Nat) (c : Nat → Int32) (n : Nat) (r : Nat) (step : Int32) (lane : Int32) (hn : c 17 = nI n) (hn7 : n ≤ 7) (hr : r < 7) : Met l yX4_isFree (ws_ yX4_isFree cX4_isFree 7 (some .boolean)) (zRm 1 0 0) (va_Pc [.ref a, .int (nI r), .int step, .int lane] (zPreO B0 D [[(a, .inl (D.1 100, 25, .inl c))]])) (zQo (S := Unit) (fun _ => True) (fun _ => some (.int (bI (mFreeTo c r step lane n))))) 0 0 (fun _ => False) := by
  refine z_entryo (by decide +kernel) (Nat.le_of_ble_eq_true rfl) (fun pX eX sX mX argsX blX mtX cX QX hQX gX => ?_)
  refine z_eq (lv₂ := [(0, .ref a), (1, .int (nI r)), (2, .int step), (3, .int lane)]) (st₂ := []) ?_ rfl rfl
  refine z_iconst (pc := 0) gX 1 dX4_isFree_0 (by decide) ?_
  refine z_istore (pc := 1) gX [1, 2, 3, 4, 0] [(0, .ref a), (1, .int (nI r)), (2, .int step), (3, .int lane), (4, .int 1)] dX4_isFree_1 (by decide) rfl ?_
  refine z_iconst (pc := 3) gX 0 dX4_isFree_3 (by decide) ?_
  refine z_istore (pc := 4) gX [1, 2, 3, 4, 5, 0] [(0, .ref a), (1, .int (nI r)), (2, .int step), (3, .int lane), (4, .int 1), (5, .int 0)] dX4_isFree_4 (by decide) rfl ?_
  have L6 : ∀ (n6 : Nat) (q : Nat) (v : Int32), (q ≤ n) → (v = bI (mFreeTo c r step lane q)) → n - q < n6 → zJ pX l eX (zRm 1 0 0) sX mX argsX blX mtX cX QX 7 (zIo D sX [[(a, .inl (D.1 100, 25, .inl c))]]) 0 0 6 [(0, .ref a), (1, .int (nI r)), (2, .int step), (3, .int lane), (4, .int v), (5, .int (nI q))] [] := by
    intro n6
    induction n6 with
    | zero => exact fun q v hq hv hm6 => absurd hm6 (Nat.not_lt_zero _)
    | succ n6 ih6 =>
      intro q v hq hv hm6
      refine z_iload (pc := 6) gX 5 dX4_isFree_6 rfl ?_
      refine z_aload_n (pc := 8) gX 0 dX4_isFree_8 rfl rfl ?_
      refine z_bipush (pc := 9) gX 17 dX4_isFree_9 (by decide) ?_
      refine z_top (nI 17) rfl ?_
      refine z_iald (pc := 11) gX (zIo_ok gX) (j := 17) (n := 25) (f := c) (zm 0 rfl) (by omega) (by decide) dX4_isFree_11 ?_
      refine z_top (nI n) hn ?_
      refine z_icmp_ge (pc := 12) gX 93 dX4_isFree_12 (by decide) (fun c12 => ?_) (fun c12 => ?_)
      · skip
        have k12 : n ≤ q := (zn_le (a := n) (b := q) (by omega) (by omega)).mp c12
        refine z_iload (pc := 93) gX 4 dX4_isFree_93 rfl ?_
        exact z_rzo gX hQX (by rw [hv, show q = n by omega]) dX4_isFree_95
      · skip
        have k12 : q < n := (zn_nle (a := n) (b := q) (by omega) (by omega)).mp c12
        refine z_aload_n (pc := 15) gX 0 dX4_isFree_15 rfl rfl ?_
        refine z_bipush (pc := 16) gX 18 dX4_isFree_16 (by decide) ?_
        refine z_iload_n (pc := 18) gX 1 dX4_isFree_18 rfl rfl ?_
        refine z_iadd (pc := 19) gX dX4_isFree_19 ?_
        refine z_top (nI (18 + r)) (nI_add 18 r) ?_
        refine z_iald (pc := 20) gX (zIo_ok gX) (j := (18 + r)) (n := 25) (f := c) (zm 0 rfl) (by omega) (by decide) dX4_isFree_20 ?_
        refine z_iconst (pc := 21) gX 4 dX4_isFree_21 (by decide) ?_
        have j52 : ∀ (v52_s0 : Int32), v52_s0 = (if 4 ≤ (c (18 + r)) then 1 else (if 4 ≤ (c (18 + q)) then 1 else (if ¬ (c (9 + q)) = lane then 0 else 1))) → zJ pX l eX (zRm 1 0 0) sX mX argsX blX mtX cX QX 7 (zIo D sX [[(a, .inl (D.1 100, 25, .inl c))]]) 0 0 52 [(0, .ref a), (1, .int (nI r)), (2, .int step), (3, .int lane), (4, .int v), (5, .int (nI q))] [.int v52_s0] := by
          intro v52_s0 ev52_s0
          refine z_istore (pc := 52) gX [1, 2, 3, 4, 5, 6, 0] [(0, .ref a), (1, .int (nI r)), (2, .int step), (3, .int lane), (4, .int v), (5, .int (nI q)), (6, .int v52_s0)] dX4_isFree_52 (by decide) rfl ?_
          refine z_iload (pc := 54) gX 4 dX4_isFree_54 rfl ?_
          have j85 : ∀ (v85_s0 : Int32), v85_s0 = (if v = 0 then 0 else (if (nI q) = (nI r) then 1 else (if ¬ (c (2 + q)) = step then 1 else (if ¬ v52_s0 = 0 then 0 else 1)))) → zJ pX l eX (zRm 1 0 0) sX mX argsX blX mtX cX QX 7 (zIo D sX [[(a, .inl (D.1 100, 25, .inl c))]]) 0 0 85 [(0, .ref a), (1, .int (nI r)), (2, .int step), (3, .int lane), (4, .int v), (5, .int (nI q)), (6, .int v52_s0)] [.int v85_s0] := by
            intro v85_s0 ev85_s0
            refine z_istore (pc := 85) gX [1, 2, 3, 4, 0, 5, 6] [(0, .ref a), (1, .int (nI r)), (2, .int step), (3, .int lane), (4, .int v85_s0), (5, .int (nI q)), (6, .int v52_s0)] dX4_isFree_85 (by decide) rfl ?_
            refine z_iinc (pc := 87) gX 5 (nI (q + 1)) [1, 2, 3, 4, 5, 0, 6] [(0, .ref a), (1, .int (nI r)), (2, .int step), (3, .int lane), (4, .int v85_s0), (5, .int (nI (q + 1))), (6, .int v52_s0)] dX4_isFree_87 rfl (nI_1 _) (by decide) rfl ?_
            refine z_goto (pc := 90) gX 6 dX4_isFree_90 (by decide) ?_
            refine z_lv [0, 1, 2, 3, 4, 5] [(0, .ref a), (1, .int (nI r)), (2, .int step), (3, .int lane), (4, .int v85_s0), (5, .int (nI (q + 1)))] rfl ?_
            exact ih6 (q + 1) v85_s0 (by omega) (by clear ih6 hm6 gX hQX; have e := zn_eq (a := q) (b := r) (by omega) (by omega); grind [mFreeTo, mMeets, bI]) (by omega)
          refine z_if_eq (pc := 56) gX 84 dX4_isFree_56 (by decide) (fun c56 => ?_) (fun c56 => ?_)
          · skip
            refine z_iconst (pc := 84) gX 0 dX4_isFree_84 (by decide) ?_
            exact j85 0 (if_pos c56).symm
          · skip
            refine z_iload (pc := 59) gX 5 dX4_isFree_59 rfl ?_
            refine z_iload_n (pc := 61) gX 1 dX4_isFree_61 rfl rfl ?_
            refine z_icmp_eq (pc := 62) gX 80 dX4_isFree_62 (by decide) (fun c62 => ?_) (fun c62 => ?_)
            · skip
              have k62 : q = r := (zn_eq (a := q) (b := r) (by omega) (by omega)).mp c62
              refine z_iconst (pc := 80) gX 1 dX4_isFree_80 (by decide) ?_
              refine z_goto (pc := 81) gX 85 dX4_isFree_81 (by decide) ?_
              exact j85 1 ((if_neg c56).trans (if_pos c62)).symm
            · skip
              have k62 : ¬ q = r := fun h => c62 ((zn_eq (a := q) (b := r) (by omega) (by omega)).mpr h)
              refine z_aload_n (pc := 65) gX 0 dX4_isFree_65 rfl rfl ?_
              refine z_iconst (pc := 66) gX 2 dX4_isFree_66 (by decide) ?_
              refine z_iload (pc := 67) gX 5 dX4_isFree_67 rfl ?_
              refine z_iadd (pc := 69) gX dX4_isFree_69 ?_
              refine z_top (nI (2 + q)) (nI_add 2 q) ?_
              refine z_iald (pc := 70) gX (zIo_ok gX) (j := (2 + q)) (n := 25) (f := c) (zm 0 rfl) (by omega) (by decide) dX4_isFree_70 ?_
              refine z_iload_n (pc := 71) gX 2 dX4_isFree_71 rfl rfl ?_
              refine z_icmp_ne (pc := 72) gX 80 dX4_isFree_72 (by decide) (fun c72 => ?_) (fun c72 => ?_)
              · skip
                refine z_iconst (pc := 80) gX 1 dX4_isFree_80 (by decide) ?_
                refine z_goto (pc := 81) gX 85 dX4_isFree_81 (by decide) ?_
                exact j85 1 (((if_neg c56).trans (if_neg c62)).trans (if_pos c72)).symm
              · skip
                refine z_iload (pc := 75) gX 6 dX4_isFree_75 rfl ?_
                refine z_if_ne (pc := 77) gX 84 dX4_isFree_77 (by decide) (fun c77 => ?_) (fun c77 => ?_)
                · skip
                  refine z_iconst (pc := 84) gX 0 dX4_isFree_84 (by decide) ?_
                  exact j85 0 ((((if_neg c56).trans (if_neg c62)).trans (if_neg (not_not_intro c72))).trans (if_pos c77)).symm
                · skip
                  refine z_iconst (pc := 80) gX 1 dX4_isFree_80 (by decide) ?_
                  refine z_goto (pc := 81) gX 85 dX4_isFree_81 (by decide) ?_
                  exact j85 1 ((((if_neg c56).trans (if_neg c62)).trans (if_neg (not_not_intro c72))).trans (if_neg (not_not_intro c77))).symm
        refine z_icmp_ge (pc := 22) gX 47 dX4_isFree_22 (by decide) (fun c22 => ?_) (fun c22 => ?_)
        · skip
          refine z_iconst (pc := 47) gX 1 dX4_isFree_47 (by decide) ?_
          refine z_goto (pc := 48) gX 52 dX4_isFree_48 (by decide) ?_
          exact j52 1 (if_pos c22).symm
        · skip
          refine z_aload_n (pc := 25) gX 0 dX4_isFree_25 rfl rfl ?_
          refine z_bipush (pc := 26) gX 18 dX4_isFree_26 (by decide) ?_
          refine z_iload (pc := 28) gX 5 dX4_isFree_28 rfl ?_
          refine z_iadd (pc := 30) gX dX4_isFree_30 ?_
          refine z_top (nI (18 + q)) (nI_add 18 q) ?_
          refine z_iald (pc := 31) gX (zIo_ok gX) (j := (18 + q)) (n := 25) (f := c) (zm 0 rfl) (by omega) (by decide) dX4_isFree_31 ?_
          refine z_iconst (pc := 32) gX 4 dX4_isFree_32 (by decide) ?_
          refine z_icmp_ge (pc := 33) gX 47 dX4_isFree_33 (by decide) (fun c33 => ?_) (fun c33 => ?_)
          · skip
            refine z_iconst (pc := 47) gX 1 dX4_isFree_47 (by decide) ?_
            refine z_goto (pc := 48) gX 52 dX4_isFree_48 (by decide) ?_
            exact j52 1 ((if_neg c22).trans (if_pos c33)).symm
          · skip
            refine z_aload_n (pc := 36) gX 0 dX4_isFree_36 rfl rfl ?_
            refine z_bipush (pc := 37) gX 9 dX4_isFree_37 (by decide) ?_
            refine z_iload (pc := 39) gX 5 dX4_isFree_39 rfl ?_
            refine z_iadd (pc := 41) gX dX4_isFree_41 ?_
            refine z_top (nI (9 + q)) (nI_add 9 q) ?_
            refine z_iald (pc := 42) gX (zIo_ok gX) (j := (9 + q)) (n := 25) (f := c) (zm 0 rfl) (by omega) (by decide) dX4_isFree_42 ?_
            refine z_iload_n (pc := 43) gX 3 dX4_isFree_43 rfl rfl ?_
            refine z_icmp_ne (pc := 44) gX 51 dX4_isFree_44 (by decide) (fun c44 => ?_) (fun c44 => ?_)
            · skip
              refine z_iconst (pc := 51) gX 0 dX4_isFree_51 (by decide) ?_
              exact j52 0 (((if_neg c22).trans (if_neg c33)).trans (if_pos c44)).symm
            · skip
              refine z_iconst (pc := 47) gX 1 dX4_isFree_47 (by decide) ?_
              refine z_goto (pc := 48) gX 52 dX4_isFree_48 (by decide) ?_
              exact j52 1 (((if_neg c22).trans (if_neg c33)).trans (if_neg (not_not_intro c44))).symm
  exact L6 ((n - 0) + 1) 0 1 (by omega) rfl (Nat.lt_succ_self _)
theorem hd_X4_isFree : zHd yX4_isFree 4 := by unfold zHd; decide +kernel

set_option maxHeartbeats 4000000 in
theorem met_X4_isOn (l : Launch) (D : va_G) (B0 : Nat) (v : Int32)  : Met l yX4_isOn (ws_ yX4_isOn cX4_isOn 1 (some .boolean)) (zRm 1 0 0) (va_Pc [.int v] (zPreO B0 D [])) (zQo (S := Unit) (fun _ => True) (fun _ => some (.int (bI (mOn v))))) 0 0 (fun _ => False) := by
  refine z_entryo (by decide +kernel) (Nat.le_of_ble_eq_true rfl) (fun pX eX sX mX argsX blX mtX cX QX hQX gX => ?_)
  refine z_eq (lv₂ := [(0, .int v)]) (st₂ := []) ?_ rfl rfl
  refine z_iload_n (pc := 0) gX 0 dX4_isOn_0 rfl rfl ?_
  refine z_iconst (pc := 1) gX (-1) dX4_isOn_1 (by decide) ?_
  refine z_icmp_eq (pc := 2) gX 15 dX4_isOn_2 (by decide) (fun c2 => ?_) (fun c2 => ?_)
  · skip
    refine z_iconst (pc := 15) gX 0 dX4_isOn_15 (by decide) ?_
    exact z_rzo gX hQX (by simp [mOn, c2, bI]) dX4_isOn_16
  · skip
    refine z_iload_n (pc := 5) gX 0 dX4_isOn_5 rfl rfl ?_
    refine z_bipush (pc := 6) gX 99 dX4_isOn_6 (by decide) ?_
    refine z_icmp_eq (pc := 8) gX 15 dX4_isOn_8 (by decide) (fun c8 => ?_) (fun c8 => ?_)
    · skip
      refine z_iconst (pc := 15) gX 0 dX4_isOn_15 (by decide) ?_
      exact z_rzo gX hQX (by simp [mOn, c2, c8, bI]) dX4_isOn_16
    · skip
      refine z_iconst (pc := 11) gX 1 dX4_isOn_11 (by decide) ?_
      refine z_goto (pc := 12) gX 16 dX4_isOn_12 (by decide) ?_
      exact z_rzo gX hQX (by simp [mOn, c2, c8, bI]) dX4_isOn_16
theorem hd_X4_isOn : zHd yX4_isOn 1 := by unfold zHd; decide +kernel

set_option maxHeartbeats 4000000 in
theorem met_X4_isStair (l : Launch) (D : va_G) (B0 : Nat) (o : Nat) (ad : Nat → Nat) (x : Nat → Int32) (c : Nat → Int32)  : Met l yX4_isStair (ws_ yX4_isStair cX4_isStair 1 (some .boolean)) (zRm 1 0 0) (va_Pc [.ref o] (zPreO B0 D [mOb o ad x, [(ad 5, .inl (D.1 100, 25, .inl c))]])) (zQo (S := Unit) (fun _ => True) (fun _ => some (.int (bI (decide (0 < c 17)))))) 0 0 (fun _ => False) := by
  refine z_entryo (by decide +kernel) (Nat.le_of_ble_eq_true rfl) (fun pX eX sX mX argsX blX mtX cX QX hQX gX => ?_)
  refine z_eq (lv₂ := [(0, .ref o)]) (st₂ := []) ?_ rfl rfl
  refine z_aload_n (pc := 0) gX 0 dX4_isStair_0 rfl rfl ?_
  refine z_get (pc := 1) gX (zIo_ok gX) (zm 0 rfl) (ci := 4) (C := RX4) (T := TX4) (N := 20) rfl in_X4 8 (by decide) q1391 (fun _ h => h) (v := .ref (ad 5)) rfl dX4_isStair_1 ?_
  refine z_bipush (pc := 4) gX 17 dX4_isStair_4 (by decide) ?_
  refine z_top (nI 17) rfl ?_
  refine z_iald (pc := 6) gX (zIo_ok gX) (j := 17) (n := 25) (f := c) (zm 1 rfl) (by omega) (by decide) dX4_isStair_6 ?_
  refine z_if_le (pc := 7) gX 14 dX4_isStair_7 (by decide) (fun c7 => ?_) (fun c7 => ?_)
  · skip
    refine z_iconst (pc := 14) gX 0 dX4_isStair_14 (by decide) ?_
    exact z_rzo gX hQX (by simp only [bI]; grind) dX4_isStair_15
  · skip
    refine z_iconst (pc := 10) gX 1 dX4_isStair_10 (by decide) ?_
    refine z_goto (pc := 11) gX 15 dX4_isStair_11 (by decide) ?_
    exact z_rzo gX hQX (by simp only [bI]; grind) dX4_isStair_15
theorem hd_X4_isStair : zHd yX4_isStair 0 := by unfold zHd; decide +kernel

set_option maxHeartbeats 4000000 in
theorem met_X4_isRider (l : Launch) (D : va_G) (B0 : Nat) (o : Nat) (ad : Nat → Nat) (x : Nat → Int32) (c : Nat → Int32) (r : Int32)  : Met l yX4_isRider (ws_ yX4_isRider cX4_isRider 2 (some .boolean)) (zRm 2 0 0) (va_Pc [.ref o, .int r] (zPreO B0 D [mOb o ad x, [(ad 5, .inl (D.1 100, 25, .inl c))]])) (zQo (S := Unit) (fun _ => True) (fun _ => some (.int (bI (mIn r 0 (c 17 - 1)))))) 0 0 (fun _ => False) := by
  refine z_entryo (by decide +kernel) (Nat.le_of_ble_eq_true rfl) (fun pX eX sX mX argsX blX mtX cX QX hQX gX => ?_)
  refine z_eq (lv₂ := [(0, .ref o), (1, .int r)]) (st₂ := []) ?_ rfl rfl
  refine z_iload_n (pc := 0) gX 1 dX4_isRider_0 rfl rfl ?_
  refine z_iconst (pc := 1) gX 0 dX4_isRider_1 (by decide) ?_
  refine z_aload_n (pc := 2) gX 0 dX4_isRider_2 rfl rfl ?_
  refine z_get (pc := 3) gX (zIo_ok gX) (zm 0 rfl) (ci := 4) (C := RX4) (T := TX4) (N := 20) rfl in_X4 8 (by decide) q1391 (fun _ h => h) (v := .ref (ad 5)) rfl dX4_isRider_3 ?_
  refine z_bipush (pc := 6) gX 17 dX4_isRider_6 (by decide) ?_
  refine z_top (nI 17) rfl ?_
  refine z_iald (pc := 8) gX (zIo_ok gX) (j := 17) (n := 25) (f := c) (zm 1 rfl) (by omega) (by decide) dX4_isRider_8 ?_
  refine z_iconst (pc := 9) gX 1 dX4_isRider_9 (by decide) ?_
  refine z_isub (pc := 10) gX dX4_isRider_10 ?_
  refine z_cOS (pc := 11) gX (zIo_ok gX) [.int r, .int 0, .int ((c 17) - 1)] [] [] (met_X4_in l D B0 r 0 ((c 17) - 1) ) q1452 q1453 q54 q1454 hd_X4_in ⟨rfl, rfl⟩ ⟨(Nat.le_of_ble_eq_true rfl), (Nat.le_of_ble_eq_true rfl)⟩ rfl rfl rfl (Nat.le_of_ble_eq_true rfl) ⟨(Nat.le_of_ble_eq_true rfl), (Nat.le_of_ble_eq_true rfl)⟩ dX4_isRider_11 ?_
  intro _ hu11
  refine z_eq (lv₂ := [(0, .ref o), (1, .int r)]) (st₂ := [.int (bI (mIn r 0 ((c 17) - 1)))]) ?_ rfl rfl
  exact z_rzo gX hQX rfl dX4_isRider_14
theorem hd_X4_isRider : zHd yX4_isRider 1 := by unfold zHd; decide +kernel

set_option maxHeartbeats 4000000 in
theorem met_X4_goes (l : Launch) (D : va_G) (B0 : Nat) (A : Nat → Prop) (a : Nat) (c : Nat → Int32) (n : Nat) (r : Nat) (b : Int32) (hn : c 17 = nI n) (hn7 : n ≤ 7) (hr : r < 7) : Met l yX4_goes (ws_ yX4_goes cX4_goes 5 (some .boolean)) (zRm 2 0 0) (va_Pc [.ref a, .int (nI r), .int b] (zPre B0 D A [[(a, .inl (D.1 100, 25, .inl c))]])) (zQ (S := Unit) (fun _ => True) (fun _ => some (.int (bI (mMay n c r b)))) (fun _ => [[(a, .inl (D.1 100, 25, .inl (mGo n c r b)))]]) D A) 0 0 A := by
  refine z_entry (by decide +kernel) (Nat.le_of_ble_eq_true rfl) (fun pX eX sX mX argsX blX mtX cX QX hQX gX hAX hnm => ?_)
  refine z_eq (lv₂ := [(0, .ref a), (1, .int (nI r)), (2, .int b)]) (st₂ := []) ?_ rfl rfl
  refine z_aload_n (pc := 0) gX 0 dX4_goes_0 rfl rfl ?_
  refine z_iconst (pc := 1) gX 2 dX4_goes_1 (by decide) ?_
  refine z_iload_n (pc := 2) gX 1 dX4_goes_2 rfl rfl ?_
  refine z_iadd (pc := 3) gX dX4_goes_3 ?_
  refine z_top (nI (2 + r)) (nI_add 2 r) ?_
  refine z_iald (pc := 4) gX (zI_ok gX hAX) (j := (2 + r)) (n := 25) (f := c) (zm 0 rfl) (by omega) (by decide) dX4_goes_4 ?_
  refine z_iload_n (pc := 5) gX 2 dX4_goes_5 rfl rfl ?_
  refine z_iadd (pc := 6) gX dX4_goes_6 ?_
  refine z_istore_n (pc := 7) gX [1, 2, 3, 0] [(0, .ref a), (1, .int (nI r)), (2, .int b), (3, .int ((c (2 + r)) + b))] dX4_goes_7 rfl (by decide) rfl ?_
  refine z_iload_n (pc := 8) gX 3 dX4_goes_8 rfl rfl ?_
  refine z_iconst (pc := 9) gX 0 dX4_goes_9 (by decide) ?_
  refine z_aload_n (pc := 10) gX 0 dX4_goes_10 rfl rfl ?_
  refine z_bipush (pc := 11) gX 16 dX4_goes_11 (by decide) ?_
  refine z_top (nI 16) rfl ?_
  refine z_iald (pc := 13) gX (zI_ok gX hAX) (j := 16) (n := 25) (f := c) (zm 0 rfl) (by omega) (by decide) dX4_goes_13 ?_
  refine z_iconst (pc := 14) gX 1 dX4_goes_14 (by decide) ?_
  refine z_isub (pc := 15) gX dX4_goes_15 ?_
  refine z_cOS (pc := 16) gX (zI_ok gX hAX) [.int ((c (2 + r)) + b), .int 0, .int ((c 16) - 1)] [] [] (met_X4_in l D B0 ((c (2 + r)) + b) 0 ((c 16) - 1) ) q1452 q1453 q54 q1454 hd_X4_in ⟨rfl, rfl⟩ ⟨(Nat.le_of_ble_eq_true rfl), (Nat.le_of_ble_eq_true rfl)⟩ rfl rfl rfl (Nat.le_of_ble_eq_true rfl) ⟨(Nat.le_of_ble_eq_true rfl), (Nat.le_of_ble_eq_true rfl)⟩ dX4_goes_16 ?_
  intro _ hu16
  refine z_eq (lv₂ := [(0, .ref a), (1, .int (nI r)), (2, .int b), (3, .int ((c (2 + r)) + b))]) (st₂ := [.int (bI (mIn ((c (2 + r)) + b) 0 ((c 16) - 1)))]) ?_ rfl rfl
  refine z_if_eq (pc := 19) gX 41 dX4_goes_19 (by decide) (fun c19 => ?_) (fun c19 => ?_)
  · skip
    have k19 : (mIn ((c (2 + r)) + b) 0 ((c 16) - 1)) = false := bI_eq0 c19
    refine z_iconst (pc := 41) gX 0 dX4_goes_41 (by decide) ?_
    refine z_istore (pc := 42) gX [1, 2, 3, 4, 0] [(0, .ref a), (1, .int (nI r)), (2, .int b), (3, .int ((c (2 + r)) + b)), (4, .int 0)] dX4_goes_42 (by decide) rfl ?_
    refine z_aload_n (pc := 44) gX 0 dX4_goes_44 rfl rfl ?_
    refine z_iconst (pc := 45) gX 2 dX4_goes_45 (by decide) ?_
    refine z_iload_n (pc := 46) gX 1 dX4_goes_46 rfl rfl ?_
    refine z_iadd (pc := 47) gX dX4_goes_47 ?_
    refine z_top (nI (2 + r)) (nI_add 2 r) ?_
    refine z_dup2 (pc := 48) gX dX4_goes_48 rfl rfl ?_
    refine z_iald (pc := 49) gX (zI_ok gX hAX) (j := (2 + r)) (n := 25) (f := c) (zm 0 rfl) (by omega) (by decide) dX4_goes_49 ?_
    refine z_iload (pc := 50) gX 4 dX4_goes_50 rfl ?_
    refine z_if_eq (pc := 52) gX 59 dX4_goes_52 (by decide) (fun c52 => ?_) (fun c52 => ?_)
    · skip
      refine z_iconst (pc := 59) gX 0 dX4_goes_59 (by decide) ?_
      refine z_iadd (pc := 60) gX dX4_goes_60 ?_
      refine z_iast (pc := 61) gX hAX 0 (j := (2 + r)) (n := 25) (f := c) rfl (by omega) (by decide) [[(a, .inl (D.1 100, 25, .inl (upd c (2 + r) ((c (2 + r)) + 0))))]] rfl dX4_goes_61 ?_
      refine z_iload (pc := 62) gX 4 dX4_goes_62 rfl ?_
      exact z_rzm gX hQX () trivial (zbv (by simp [mMay, k19, c52, bI])) (by rw [show mGo n c r b = upd c (2 + r) ((c (2 + r)) + 0) by simp [mGo, mMay, k19, c52]]) (by first | decide | omega) (by first | decide | omega) dX4_goes_64
    · skip
      exact absurd c52 (by decide)
  · skip
    have k19 : (mIn ((c (2 + r)) + b) 0 ((c 16) - 1)) = true := bI_ne0 c19
    refine z_aload_n (pc := 22) gX 0 dX4_goes_22 rfl rfl ?_
    refine z_iload_n (pc := 23) gX 1 dX4_goes_23 rfl rfl ?_
    refine z_iload_n (pc := 24) gX 3 dX4_goes_24 rfl rfl ?_
    refine z_aload_n (pc := 25) gX 0 dX4_goes_25 rfl rfl ?_
    refine z_bipush (pc := 26) gX 9 dX4_goes_26 (by decide) ?_
    refine z_iload_n (pc := 28) gX 1 dX4_goes_28 rfl rfl ?_
    refine z_iadd (pc := 29) gX dX4_goes_29 ?_
    refine z_top (nI (9 + r)) (nI_add 9 r) ?_
    refine z_iald (pc := 30) gX (zI_ok gX hAX) (j := (9 + r)) (n := 25) (f := c) (zm 0 rfl) (by omega) (by decide) dX4_goes_30 ?_
    refine z_cOS (pc := 31) gX (zI_ok gX hAX) [.ref a, .int (nI r), .int ((c (2 + r)) + b), .int (c (9 + r))] [] [0] (met_X4_isFree l D B0 a c n r ((c (2 + r)) + b) (c (9 + r)) (by first | assumption | omega) (by first | assumption | omega) (by first | assumption | omega)) q1547 q1548 q54 q1549 hd_X4_isFree ⟨rfl, rfl⟩ ⟨(Nat.le_of_ble_eq_true rfl), (Nat.le_of_ble_eq_true rfl)⟩ rfl rfl rfl (Nat.le_of_ble_eq_true rfl) ⟨(Nat.le_of_ble_eq_true rfl), (Nat.le_of_ble_eq_true rfl)⟩ dX4_goes_31 ?_
    intro _ hu31
    refine z_eq (lv₂ := [(0, .ref a), (1, .int (nI r)), (2, .int b), (3, .int ((c (2 + r)) + b))]) (st₂ := [.int (bI (mFreeTo c r ((c (2 + r)) + b) (c (9 + r)) n))]) ?_ rfl rfl
    refine z_if_eq (pc := 34) gX 41 dX4_goes_34 (by decide) (fun c34 => ?_) (fun c34 => ?_)
    · skip
      have k34 : (mFreeTo c r ((c (2 + r)) + b) (c (9 + r)) n) = false := bI_eq0 c34
      refine z_iconst (pc := 41) gX 0 dX4_goes_41 (by decide) ?_
      refine z_istore (pc := 42) gX [1, 2, 3, 4, 0] [(0, .ref a), (1, .int (nI r)), (2, .int b), (3, .int ((c (2 + r)) + b)), (4, .int 0)] dX4_goes_42 (by decide) rfl ?_
      refine z_aload_n (pc := 44) gX 0 dX4_goes_44 rfl rfl ?_
      refine z_iconst (pc := 45) gX 2 dX4_goes_45 (by decide) ?_
      refine z_iload_n (pc := 46) gX 1 dX4_goes_46 rfl rfl ?_
      refine z_iadd (pc := 47) gX dX4_goes_47 ?_
      refine z_top (nI (2 + r)) (nI_add 2 r) ?_
      refine z_dup2 (pc := 48) gX dX4_goes_48 rfl rfl ?_
      refine z_iald (pc := 49) gX (zI_ok gX hAX) (j := (2 + r)) (n := 25) (f := c) (zm 0 rfl) (by omega) (by decide) dX4_goes_49 ?_
      refine z_iload (pc := 50) gX 4 dX4_goes_50 rfl ?_
      refine z_if_eq (pc := 52) gX 59 dX4_goes_52 (by decide) (fun c52 => ?_) (fun c52 => ?_)
      · skip
        refine z_iconst (pc := 59) gX 0 dX4_goes_59 (by decide) ?_
        refine z_iadd (pc := 60) gX dX4_goes_60 ?_
        refine z_iast (pc := 61) gX hAX 0 (j := (2 + r)) (n := 25) (f := c) rfl (by omega) (by decide) [[(a, .inl (D.1 100, 25, .inl (upd c (2 + r) ((c (2 + r)) + 0))))]] rfl dX4_goes_61 ?_
        refine z_iload (pc := 62) gX 4 dX4_goes_62 rfl ?_
        exact z_rzm gX hQX () trivial (zbv (by simp [mMay, k19, k34, c52, bI])) (by rw [show mGo n c r b = upd c (2 + r) ((c (2 + r)) + 0) by simp [mGo, mMay, k19, k34, c52]]) (by first | decide | omega) (by first | decide | omega) dX4_goes_64
      · skip
        exact absurd c52 (by decide)
    · skip
      have k34 : (mFreeTo c r ((c (2 + r)) + b) (c (9 + r)) n) = true := bI_ne0 c34
      refine z_iconst (pc := 37) gX 1 dX4_goes_37 (by decide) ?_
      refine z_goto (pc := 38) gX 42 dX4_goes_38 (by decide) ?_
      refine z_istore (pc := 42) gX [1, 2, 3, 4, 0] [(0, .ref a), (1, .int (nI r)), (2, .int b), (3, .int ((c (2 + r)) + b)), (4, .int 1)] dX4_goes_42 (by decide) rfl ?_
      refine z_aload_n (pc := 44) gX 0 dX4_goes_44 rfl rfl ?_
      refine z_iconst (pc := 45) gX 2 dX4_goes_45 (by decide) ?_
      refine z_iload_n (pc := 46) gX 1 dX4_goes_46 rfl rfl ?_
      refine z_iadd (pc := 47) gX dX4_goes_47 ?_
      refine z_top (nI (2 + r)) (nI_add 2 r) ?_
      refine z_dup2 (pc := 48) gX dX4_goes_48 rfl rfl ?_
      refine z_iald (pc := 49) gX (zI_ok gX hAX) (j := (2 + r)) (n := 25) (f := c) (zm 0 rfl) (by omega) (by decide) dX4_goes_49 ?_
      refine z_iload (pc := 50) gX 4 dX4_goes_50 rfl ?_
      refine z_if_eq (pc := 52) gX 59 dX4_goes_52 (by decide) (fun c52 => ?_) (fun c52 => ?_)
      · skip
        exact absurd c52 (by decide)
      · skip
        refine z_iload_n (pc := 55) gX 2 dX4_goes_55 rfl rfl ?_
        refine z_goto (pc := 56) gX 60 dX4_goes_56 (by decide) ?_
        refine z_iadd (pc := 60) gX dX4_goes_60 ?_
        refine z_iast (pc := 61) gX hAX 0 (j := (2 + r)) (n := 25) (f := c) rfl (by omega) (by decide) [[(a, .inl (D.1 100, 25, .inl (upd c (2 + r) ((c (2 + r)) + b))))]] rfl dX4_goes_61 ?_
        refine z_iload (pc := 62) gX 4 dX4_goes_62 rfl ?_
        exact z_rzm gX hQX () trivial (zbv (by simp [mMay, k19, k34, c52, bI])) (by rw [show mGo n c r b = upd c (2 + r) ((c (2 + r)) + b) by simp [mGo, mMay, k19, k34, c52]]) (by first | decide | omega) (by first | decide | omega) dX4_goes_64
theorem hd_X4_goes : zHd yX4_goes 3 := by unfold zHd; decide +kernel

set_option maxHeartbeats 4000000 in
theorem met_X4_moves (l : Launch) (D : va_G) (B0 : Nat) (A : Nat → Prop) (a : Nat) (c : Nat → Int32) (n : Nat) (r : Nat) (hn : c 17 = nI n) (hn7 : n ≤ 7) (hr : r < 7) : Met l yX4_moves (ws_ yX4_moves cX4_moves 4 none) (zRm 3 0 0) (va_Pc [.ref a, .int (nI r)] (zPre B0 D A [[(a, .inl (D.1 100, 25, .inl c))]])) (zQ (S := Unit) (fun _ => True) (fun _ => none) (fun _ => [[(a, .inl (D.1 100, 25, .inl (mMv n c r)))]]) D A) 0 0 A := by
  refine z_entry (by decide +kernel) (Nat.le_of_ble_eq_true rfl) (fun pX eX sX mX argsX blX mtX cX QX hQX gX hAX hnm => ?_)
  refine z_eq (lv₂ := [(0, .ref a), (1, .int (nI r))]) (st₂ := []) ?_ rfl rfl
  refine z_aload_n (pc := 0) gX 0 dX4_moves_0 rfl rfl ?_
  refine z_bipush (pc := 1) gX 18 dX4_moves_1 (by decide) ?_
  refine z_iload_n (pc := 3) gX 1 dX4_moves_3 rfl rfl ?_
  refine z_iadd (pc := 4) gX dX4_moves_4 ?_
  refine z_top (nI (18 + r)) (nI_add 18 r) ?_
  refine z_iald (pc := 5) gX (zI_ok gX hAX) (j := (18 + r)) (n := 25) (f := c) (zm 0 rfl) (by omega) (by decide) dX4_moves_5 ?_
  refine z_istore_n (pc := 6) gX [1, 2, 0] [(0, .ref a), (1, .int (nI r)), (2, .int (c (18 + r)))] dX4_moves_6 rfl (by decide) rfl ?_
  refine z_iload_n (pc := 7) gX 2 dX4_moves_7 rfl rfl ?_
  refine z_iconst (pc := 8) gX 2 dX4_moves_8 (by decide) ?_
  refine z_icmp_eq (pc := 9) gX 17 dX4_moves_9 (by decide) (fun c9 => ?_) (fun c9 => ?_)
  · skip
    refine z_aload_n (pc := 17) gX 0 dX4_moves_17 rfl rfl ?_
    refine z_iload_n (pc := 18) gX 1 dX4_moves_18 rfl rfl ?_
    refine z_iconst (pc := 19) gX 1 dX4_moves_19 (by decide) ?_
    refine z_cMS (pc := 20) gX hAX [.ref a, .int (nI r), .int 1] [] [0] [] (fun A1 => met_X4_goes l D B0 A1 a c n r 1 (by first | assumption | omega) (by first | assumption | omega) (by first | assumption | omega)) q1544 q1545 q54 q1546 hd_X4_goes ⟨rfl, rfl⟩ ⟨(Nat.le_of_ble_eq_true rfl), (Nat.le_of_ble_eq_true rfl)⟩ rfl rfl rfl rfl rfl (Nat.le_of_ble_eq_true rfl) ⟨(Nat.le_of_ble_eq_true rfl), (Nat.le_of_ble_eq_true rfl)⟩ dX4_moves_20 ?_
    intro _ hu20
    refine z_re [0] [[(a, .inl (D.1 100, 25, .inl (mGo n c r 1)))]] rfl rfl ?_
    refine z_eq (lv₂ := [(0, .ref a), (1, .int (nI r)), (2, .int (c (18 + r)))]) (st₂ := [.int (bI (mMay n c r 1))]) ?_ rfl rfl
    refine z_goto (pc := 23) gX 54 dX4_moves_23 (by decide) ?_
    refine z_istore_n (pc := 54) gX [1, 2, 3, 0] [(0, .ref a), (1, .int (nI r)), (2, .int (c (18 + r))), (3, .int (bI (mMay n c r 1)))] dX4_moves_54 rfl (by decide) rfl ?_
    refine z_iload_n (pc := 55) gX 2 dX4_moves_55 rfl rfl ?_
    refine z_iconst (pc := 56) gX 3 dX4_moves_56 (by decide) ?_
    refine z_icmp_ne (pc := 57) gX 71 dX4_moves_57 (by decide) (fun c57 => ?_) (fun c57 => ?_)
    · skip
      exact z_vret gX hQX () trivial rfl (by rw [show mMv n c r = mGo n c r 1 by first | (simp [mMv, c9, c57]; done) | grind [mMv, bI]]) (by first | decide | omega) (by first | decide | omega) dX4_moves_71
    · skip
      refine z_iload_n (pc := 60) gX 3 dX4_moves_60 rfl rfl ?_
      refine z_if_eq (pc := 61) gX 71 dX4_moves_61 (by decide) (fun c61 => ?_) (fun c61 => ?_)
      · skip
        have k61 : (mMay n c r 1) = false := bI_eq0 c61
        exact z_vret gX hQX () trivial rfl (by rw [show mMv n c r = mGo n c r 1 by first | (simp [mMv, c9, c57, k61]; done) | grind [mMv, bI]]) (by first | decide | omega) (by first | decide | omega) dX4_moves_71
      · skip
        have k61 : (mMay n c r 1) = true := bI_ne0 c61
        refine z_aload_n (pc := 64) gX 0 dX4_moves_64 rfl rfl ?_
        refine z_iload_n (pc := 65) gX 1 dX4_moves_65 rfl rfl ?_
        refine z_iconst (pc := 66) gX 1 dX4_moves_66 (by decide) ?_
        refine z_cMS (pc := 67) gX hAX [.ref a, .int (nI r), .int 1] [] [0] [] (fun A1 => met_X4_goes l D B0 A1 a (mGo n c r 1) n r 1 ((Fr.go hr 17 (by omega)).trans hn) (by first | assumption | omega) (by first | assumption | omega)) q1544 q1545 q54 q1546 hd_X4_goes ⟨rfl, rfl⟩ ⟨(Nat.le_of_ble_eq_true rfl), (Nat.le_of_ble_eq_true rfl)⟩ rfl rfl rfl rfl rfl (Nat.le_of_ble_eq_true rfl) ⟨(Nat.le_of_ble_eq_true rfl), (Nat.le_of_ble_eq_true rfl)⟩ dX4_moves_67 ?_
        intro _ hu67
        refine z_re [0] [[(a, .inl (D.1 100, 25, .inl (mGo n (mGo n c r 1) r 1)))]] rfl rfl ?_
        refine z_eq (lv₂ := [(0, .ref a), (1, .int (nI r)), (2, .int (c (18 + r))), (3, .int (bI (mMay n c r 1)))]) (st₂ := [.int (bI (mMay n (mGo n c r 1) r 1))]) ?_ rfl rfl
        refine z_pop (pc := 70) gX dX4_moves_70 rfl ?_
        exact z_vret gX hQX () trivial rfl (by rw [show mMv n c r = mGo n (mGo n c r 1) r 1 by first | (simp [mMv, c9, c57, k61]; done) | grind [mMv, bI]]) (by first | decide | omega) (by first | decide | omega) dX4_moves_71
  · skip
    refine z_iload_n (pc := 12) gX 2 dX4_moves_12 rfl rfl ?_
    refine z_iconst (pc := 13) gX 3 dX4_moves_13 (by decide) ?_
    refine z_icmp_ne (pc := 14) gX 26 dX4_moves_14 (by decide) (fun c14 => ?_) (fun c14 => ?_)
    · skip
      refine z_iload_n (pc := 26) gX 2 dX4_moves_26 rfl rfl ?_
      refine z_iconst (pc := 27) gX 5 dX4_moves_27 (by decide) ?_
      refine z_icmp_ne (pc := 28) gX 53 dX4_moves_28 (by decide) (fun c28 => ?_) (fun c28 => ?_)
      · skip
        refine z_iconst (pc := 53) gX 0 dX4_moves_53 (by decide) ?_
        refine z_istore_n (pc := 54) gX [1, 2, 3, 0] [(0, .ref a), (1, .int (nI r)), (2, .int (c (18 + r))), (3, .int 0)] dX4_moves_54 rfl (by decide) rfl ?_
        refine z_iload_n (pc := 55) gX 2 dX4_moves_55 rfl rfl ?_
        refine z_iconst (pc := 56) gX 3 dX4_moves_56 (by decide) ?_
        refine z_icmp_ne (pc := 57) gX 71 dX4_moves_57 (by decide) (fun c57 => ?_) (fun c57 => ?_)
        · skip
          exact z_vret gX hQX () trivial rfl (by rw [show mMv n c r = c by first | (simp [mMv, c9, c14, c28, c57]; done) | grind [mMv, bI]]) (by first | decide | omega) (by first | decide | omega) dX4_moves_71
        · skip
          refine z_iload_n (pc := 60) gX 3 dX4_moves_60 rfl rfl ?_
          refine z_if_eq (pc := 61) gX 71 dX4_moves_61 (by decide) (fun c61 => ?_) (fun c61 => ?_)
          · skip
            exact z_vret gX hQX () trivial rfl (by rw [show mMv n c r = c by first | (simp [mMv, c9, c14, c28, c57, c61]; done) | grind [mMv, bI]]) (by first | decide | omega) (by first | decide | omega) dX4_moves_71
          · skip
            exact absurd c61 (by decide)
      · skip
        refine z_aload_n (pc := 31) gX 0 dX4_moves_31 rfl rfl ?_
        refine z_iconst (pc := 32) gX 0 dX4_moves_32 (by decide) ?_
        refine z_top (nI 0) rfl ?_
        refine z_iald (pc := 33) gX (zI_ok gX hAX) (j := 0) (n := 25) (f := c) (zm 0 rfl) (by omega) (by decide) dX4_moves_33 ?_
        refine z_iconst (pc := 34) gX 2 dX4_moves_34 (by decide) ?_
        refine z_irem (pc := 35) gX dX4_moves_35 (by decide) ?_
        refine z_iconst (pc := 36) gX 1 dX4_moves_36 (by decide) ?_
        refine z_icmp_ne (pc := 37) gX 53 dX4_moves_37 (by decide) (fun c37 => ?_) (fun c37 => ?_)
        · skip
          refine z_iconst (pc := 53) gX 0 dX4_moves_53 (by decide) ?_
          refine z_istore_n (pc := 54) gX [1, 2, 3, 0] [(0, .ref a), (1, .int (nI r)), (2, .int (c (18 + r))), (3, .int 0)] dX4_moves_54 rfl (by decide) rfl ?_
          refine z_iload_n (pc := 55) gX 2 dX4_moves_55 rfl rfl ?_
          refine z_iconst (pc := 56) gX 3 dX4_moves_56 (by decide) ?_
          refine z_icmp_ne (pc := 57) gX 71 dX4_moves_57 (by decide) (fun c57 => ?_) (fun c57 => ?_)
          · skip
            exact z_vret gX hQX () trivial rfl (by rw [show mMv n c r = c by first | (simp [mMv, c9, c14, c28, c37, c57]; done) | grind [mMv, bI]]) (by first | decide | omega) (by first | decide | omega) dX4_moves_71
          · skip
            refine z_iload_n (pc := 60) gX 3 dX4_moves_60 rfl rfl ?_
            refine z_if_eq (pc := 61) gX 71 dX4_moves_61 (by decide) (fun c61 => ?_) (fun c61 => ?_)
            · skip
              exact z_vret gX hQX () trivial rfl (by rw [show mMv n c r = c by first | (simp [mMv, c9, c14, c28, c37, c57, c61]; done) | grind [mMv, bI]]) (by first | decide | omega) (by first | decide | omega) dX4_moves_71
            · skip
              exact absurd c61 (by decide)
        · skip
          refine z_aload_n (pc := 40) gX 0 dX4_moves_40 rfl rfl ?_
          refine z_iload_n (pc := 41) gX 1 dX4_moves_41 rfl rfl ?_
          refine z_iconst (pc := 42) gX (-1) dX4_moves_42 (by decide) ?_
          refine z_cMS (pc := 43) gX hAX [.ref a, .int (nI r), .int (-1)] [] [0] [] (fun A1 => met_X4_goes l D B0 A1 a c n r (-1) (by first | assumption | omega) (by first | assumption | omega) (by first | assumption | omega)) q1544 q1545 q54 q1546 hd_X4_goes ⟨rfl, rfl⟩ ⟨(Nat.le_of_ble_eq_true rfl), (Nat.le_of_ble_eq_true rfl)⟩ rfl rfl rfl rfl rfl (Nat.le_of_ble_eq_true rfl) ⟨(Nat.le_of_ble_eq_true rfl), (Nat.le_of_ble_eq_true rfl)⟩ dX4_moves_43 ?_
          intro _ hu43
          refine z_re [0] [[(a, .inl (D.1 100, 25, .inl (mGo n c r (-1))))]] rfl rfl ?_
          refine z_eq (lv₂ := [(0, .ref a), (1, .int (nI r)), (2, .int (c (18 + r)))]) (st₂ := [.int (bI (mMay n c r (-1)))]) ?_ rfl rfl
          refine z_if_eq (pc := 46) gX 53 dX4_moves_46 (by decide) (fun c46 => ?_) (fun c46 => ?_)
          · skip
            have k46 : (mMay n c r (-1)) = false := bI_eq0 c46
            refine z_iconst (pc := 53) gX 0 dX4_moves_53 (by decide) ?_
            refine z_istore_n (pc := 54) gX [1, 2, 3, 0] [(0, .ref a), (1, .int (nI r)), (2, .int (c (18 + r))), (3, .int 0)] dX4_moves_54 rfl (by decide) rfl ?_
            refine z_iload_n (pc := 55) gX 2 dX4_moves_55 rfl rfl ?_
            refine z_iconst (pc := 56) gX 3 dX4_moves_56 (by decide) ?_
            refine z_icmp_ne (pc := 57) gX 71 dX4_moves_57 (by decide) (fun c57 => ?_) (fun c57 => ?_)
            · skip
              exact z_vret gX hQX () trivial rfl (by rw [show mMv n c r = mGo n c r (-1) by first | (simp [mMv, c9, c14, c28, c37, k46, c57]; done) | grind [mMv, bI]]) (by first | decide | omega) (by first | decide | omega) dX4_moves_71
            · skip
              refine z_iload_n (pc := 60) gX 3 dX4_moves_60 rfl rfl ?_
              refine z_if_eq (pc := 61) gX 71 dX4_moves_61 (by decide) (fun c61 => ?_) (fun c61 => ?_)
              · skip
                exact z_vret gX hQX () trivial rfl (by rw [show mMv n c r = mGo n c r (-1) by first | (simp [mMv, c9, c14, c28, c37, k46, c57, c61]; done) | grind [mMv, bI]]) (by first | decide | omega) (by first | decide | omega) dX4_moves_71
              · skip
                exact absurd c61 (by decide)
          · skip
            have k46 : (mMay n c r (-1)) = true := bI_ne0 c46
            refine z_iconst (pc := 49) gX 1 dX4_moves_49 (by decide) ?_
            refine z_goto (pc := 50) gX 54 dX4_moves_50 (by decide) ?_
            refine z_istore_n (pc := 54) gX [1, 2, 3, 0] [(0, .ref a), (1, .int (nI r)), (2, .int (c (18 + r))), (3, .int 1)] dX4_moves_54 rfl (by decide) rfl ?_
            refine z_iload_n (pc := 55) gX 2 dX4_moves_55 rfl rfl ?_
            refine z_iconst (pc := 56) gX 3 dX4_moves_56 (by decide) ?_
            refine z_icmp_ne (pc := 57) gX 71 dX4_moves_57 (by decide) (fun c57 => ?_) (fun c57 => ?_)
            · skip
              exact z_vret gX hQX () trivial rfl (by rw [show mMv n c r = mGo n c r (-1) by first | (simp [mMv, c9, c14, c28, c37, k46, c57]; done) | grind [mMv, bI]]) (by first | decide | omega) (by first | decide | omega) dX4_moves_71
            · skip
              refine z_iload_n (pc := 60) gX 3 dX4_moves_60 rfl rfl ?_
              refine z_if_eq (pc := 61) gX 71 dX4_moves_61 (by decide) (fun c61 => ?_) (fun c61 => ?_)
              · skip
                exact absurd c61 (by decide)
              · skip
                refine z_aload_n (pc := 64) gX 0 dX4_moves_64 rfl rfl ?_
                refine z_iload_n (pc := 65) gX 1 dX4_moves_65 rfl rfl ?_
                refine z_iconst (pc := 66) gX 1 dX4_moves_66 (by decide) ?_
                refine z_cMS (pc := 67) gX hAX [.ref a, .int (nI r), .int 1] [] [0] [] (fun A1 => met_X4_goes l D B0 A1 a (mGo n c r (-1)) n r 1 ((Fr.go hr 17 (by omega)).trans hn) (by first | assumption | omega) (by first | assumption | omega)) q1544 q1545 q54 q1546 hd_X4_goes ⟨rfl, rfl⟩ ⟨(Nat.le_of_ble_eq_true rfl), (Nat.le_of_ble_eq_true rfl)⟩ rfl rfl rfl rfl rfl (Nat.le_of_ble_eq_true rfl) ⟨(Nat.le_of_ble_eq_true rfl), (Nat.le_of_ble_eq_true rfl)⟩ dX4_moves_67 ?_
                intro _ hu67
                refine z_re [0] [[(a, .inl (D.1 100, 25, .inl (mGo n (mGo n c r (-1)) r 1)))]] rfl rfl ?_
                refine z_eq (lv₂ := [(0, .ref a), (1, .int (nI r)), (2, .int (c (18 + r))), (3, .int 1)]) (st₂ := [.int (bI (mMay n (mGo n c r (-1)) r 1))]) ?_ rfl rfl
                refine z_pop (pc := 70) gX dX4_moves_70 rfl ?_
                exact z_vret gX hQX () trivial rfl (by rw [show mMv n c r = mGo n (mGo n c r (-1)) r 1 by first | (simp [mMv, c9, c14, c28, c37, k46, c57, c61]; done) | grind [mMv, bI]]) (by first | decide | omega) (by first | decide | omega) dX4_moves_71
    · skip
      refine z_aload_n (pc := 17) gX 0 dX4_moves_17 rfl rfl ?_
      refine z_iload_n (pc := 18) gX 1 dX4_moves_18 rfl rfl ?_
      refine z_iconst (pc := 19) gX 1 dX4_moves_19 (by decide) ?_
      refine z_cMS (pc := 20) gX hAX [.ref a, .int (nI r), .int 1] [] [0] [] (fun A1 => met_X4_goes l D B0 A1 a c n r 1 (by first | assumption | omega) (by first | assumption | omega) (by first | assumption | omega)) q1544 q1545 q54 q1546 hd_X4_goes ⟨rfl, rfl⟩ ⟨(Nat.le_of_ble_eq_true rfl), (Nat.le_of_ble_eq_true rfl)⟩ rfl rfl rfl rfl rfl (Nat.le_of_ble_eq_true rfl) ⟨(Nat.le_of_ble_eq_true rfl), (Nat.le_of_ble_eq_true rfl)⟩ dX4_moves_20 ?_
      intro _ hu20
      refine z_re [0] [[(a, .inl (D.1 100, 25, .inl (mGo n c r 1)))]] rfl rfl ?_
      refine z_eq (lv₂ := [(0, .ref a), (1, .int (nI r)), (2, .int (c (18 + r)))]) (st₂ := [.int (bI (mMay n c r 1))]) ?_ rfl rfl
      refine z_goto (pc := 23) gX 54 dX4_moves_23 (by decide) ?_
      refine z_istore_n (pc := 54) gX [1, 2, 3, 0] [(0, .ref a), (1, .int (nI r)), (2, .int (c (18 + r))), (3, .int (bI (mMay n c r 1)))] dX4_moves_54 rfl (by decide) rfl ?_
      refine z_iload_n (pc := 55) gX 2 dX4_moves_55 rfl rfl ?_
      refine z_iconst (pc := 56) gX 3 dX4_moves_56 (by decide) ?_
      refine z_icmp_ne (pc := 57) gX 71 dX4_moves_57 (by decide) (fun c57 => ?_) (fun c57 => ?_)
      · skip
        exact z_vret gX hQX () trivial rfl (by rw [show mMv n c r = mGo n c r 1 by first | (simp [mMv, c9, c14, c57]; done) | grind [mMv, bI]]) (by first | decide | omega) (by first | decide | omega) dX4_moves_71
      · skip
        refine z_iload_n (pc := 60) gX 3 dX4_moves_60 rfl rfl ?_
        refine z_if_eq (pc := 61) gX 71 dX4_moves_61 (by decide) (fun c61 => ?_) (fun c61 => ?_)
        · skip
          have k61 : (mMay n c r 1) = false := bI_eq0 c61
          exact z_vret gX hQX () trivial rfl (by rw [show mMv n c r = mGo n c r 1 by first | (simp [mMv, c9, c14, c57, k61]; done) | grind [mMv, bI]]) (by first | decide | omega) (by first | decide | omega) dX4_moves_71
        · skip
          have k61 : (mMay n c r 1) = true := bI_ne0 c61
          refine z_aload_n (pc := 64) gX 0 dX4_moves_64 rfl rfl ?_
          refine z_iload_n (pc := 65) gX 1 dX4_moves_65 rfl rfl ?_
          refine z_iconst (pc := 66) gX 1 dX4_moves_66 (by decide) ?_
          refine z_cMS (pc := 67) gX hAX [.ref a, .int (nI r), .int 1] [] [0] [] (fun A1 => met_X4_goes l D B0 A1 a (mGo n c r 1) n r 1 ((Fr.go hr 17 (by omega)).trans hn) (by first | assumption | omega) (by first | assumption | omega)) q1544 q1545 q54 q1546 hd_X4_goes ⟨rfl, rfl⟩ ⟨(Nat.le_of_ble_eq_true rfl), (Nat.le_of_ble_eq_true rfl)⟩ rfl rfl rfl rfl rfl (Nat.le_of_ble_eq_true rfl) ⟨(Nat.le_of_ble_eq_true rfl), (Nat.le_of_ble_eq_true rfl)⟩ dX4_moves_67 ?_
          intro _ hu67
          refine z_re [0] [[(a, .inl (D.1 100, 25, .inl (mGo n (mGo n c r 1) r 1)))]] rfl rfl ?_
          refine z_eq (lv₂ := [(0, .ref a), (1, .int (nI r)), (2, .int (c (18 + r))), (3, .int (bI (mMay n c r 1)))]) (st₂ := [.int (bI (mMay n (mGo n c r 1) r 1))]) ?_ rfl rfl
          refine z_pop (pc := 70) gX dX4_moves_70 rfl ?_
          exact z_vret gX hQX () trivial rfl (by rw [show mMv n c r = mGo n (mGo n c r 1) r 1 by first | (simp [mMv, c9, c14, c57, k61]; done) | grind [mMv, bI]]) (by first | decide | omega) (by first | decide | omega) dX4_moves_71
theorem hd_X4_moves : zHd yX4_moves 2 := by unfold zHd; decide +kernel

/-- who is at p in lane sd, of the riders from r on, m of them -/
def ordF (w ln : Nat → Int32) (p sd : Int32) : Nat → Nat → List Nat
  | 0, _ => []
  | m + 1, r => if w r = p ∧ ln r = sd then r :: ordF w ln p sd m (r + 1) else ordF w ln p sd m (r + 1)
def lnF (w ln : Nat → Int32) (n : Nat) (p : Int32) : Nat → List Nat
  | 0 => ordF w ln p 0 n 0 ++ ordF w ln p 1 n 0
  | 1 => ordF w ln p 1 n 0
  | _ => []
/-- those on the stair below step k, as they go one after the other -/
def ordS (w ln : Nat → Int32) (n : Nat) : Nat → List Nat
  | 0 => []
  | k + 1 => lnF w ln n (nI k) 0 ++ ordS w ln n k
abbrev ordC (n : Nat) (c : Nat → Int32) (k : Nat) : List Nat := ordS (fun r => c (2 + r)) (fun r => c (9 + r)) n k
def mRide (c : Nat → Int32) (r : Nat) : Nat → Int32 := if mOn (c (2 + r)) = true then upd c (2 + r) (if c (2 + r) + c 1 < c 16 then c (2 + r) + c 1 else 99) else c
def mPh2 (c : Nat → Int32) : Nat → (Nat → Int32)
  | 0 => c
  | r + 1 => mRide (mPh2 c r) r
def fstF (P : Nat → Bool) : Nat → Nat → Option Nat
  | 0, _ => none
  | m + 1, r => if P r = true then some r else fstF P m (r + 1)
def mCand (n : Nat) (c : Nat → Int32) (r : Nat) : Bool := decide (c (2 + r) = -1) && mFreeTo c r 0 (c (9 + r)) n
def mCome (n : Nat) (c : Nat → Int32) : Nat → Int32 := match fstF (mCand n c) n 0 with
  | some r => upd c (2 + r) 0
  | none => c
def mPh1 (n k : Nat) (c : Nat → Int32) : Nat → Int32 := (ordC n c k).foldl (mMv n) c
def mTick (n k : Nat) (c : Nat → Int32) : Nat → Int32 := upd (mCome n (mPh2 (mPh1 n k c) n)) 0 (mPh2 (mPh1 n k c) n 0 + 1)
theorem upd_upd (f : Nat → Int32) (k : Nat) (a b : Int32) : upd (upd f k a) k b = upd f k b := by funext j; simp only [upd]; split <;> rfl
theorem cpW_s {wn c : Nat → Int32} {i : Nat} (h : ∀ q, q < i → wn (2 + q) = c (2 + q)) : ∀ q, q < i + 1 → upd wn (2 + i) (c (2 + i)) (2 + q) = c (2 + q) := by
  intro q hq
  rcases Nat.lt_or_ge q i with h1 | h1
  · rw [pk_un (by omega)]; exact h q h1
  · rw [show q = i by omega, pk_us]
theorem ordF_s {w ln : Nat → Int32} {p sd : Int32} {n r : Nat} (h : r < n) : ordF w ln p sd (n - r) r = if w r = p ∧ ln r = sd then r :: ordF w ln p sd (n - (r + 1)) (r + 1) else ordF w ln p sd (n - (r + 1)) (r + 1) := by
  rw [show n - r = (n - (r + 1)) + 1 by omega]; rfl
theorem lnF_s {w ln : Nat → Int32} {n : Nat} {p : Int32} {la : Nat} (h : la < 2) : lnF w ln n p la = ordF w ln p (nI la) (n - 0) 0 ++ lnF w ln n p (la + 1) := by
  rcases (show la = 0 ∨ la = 1 by omega) with rfl | rfl
  · rfl
  · show ordF w ln p 1 n 0 = ordF w ln p 1 n 0 ++ []
    rw [List.append_nil]
theorem fst_s {P : Nat → Bool} {n r : Nat} (h : r < n) : fstF P (n - r) r = if P r = true then some r else fstF P (n - (r + 1)) (r + 1) := by
  rw [show n - r = (n - (r + 1)) + 1 by omega]; rfl
theorem fst_lt {P : Nat → Bool} : ∀ {m r q : Nat}, fstF P m r = some q → q < r + m ∧ P q = true
  | 0, r, q, h => by cases h
  | m + 1, r, q, h => by
    simp only [fstF] at h
    split at h
    · cases h; exact ⟨by omega, by assumption⟩
    · have := fst_lt h
      exact ⟨by omega, this.2⟩
def nxI : Option Nat → Int32
  | none => -1
  | some r => nI r
theorem zpred_pos {j : Nat} (h : ¬ nI j - 1 < 0) : ∃ j0, j = j0 + 1 := by
  cases j with
  | zero => exact absurd (by decide) h
  | succ j => exact ⟨j, rfl⟩
theorem zpred_neg {j : Nat} (h : nI j - 1 < 0) (hj : j < 1000) : j = 0 := by
  cases j with
  | zero => rfl
  | succ j =>
    rw [nI_pred] at h
    exact absurd h (nI_pos (by omega))
theorem zm1 (a : Int32) : a + Int32.ofInt (-1) = a - 1 := by rw [Int32.sub_eq_add_neg]; rfl
theorem nxI_some {o : Option Nat} (h : ¬ nxI o < 0) : ∃ r, o = some r := by
  cases o with
  | none => exact absurd (by decide) h
  | some r => exact ⟨r, rfl⟩
theorem nxI_none {o : Option Nat} (h : nxI o < 0) (hb : ∀ r, o = some r → r < 1000) : o = none := by
  cases o with
  | none => rfl
  | some r => exact absurd h (nI_pos (by have := hb r rfl; omega))
theorem Fr.ride {c : Nat → Int32} {r : Nat} (hr : r < 7) : Fr c (mRide c r) := by
  unfold mRide
  split
  · exact Fr.up hr
  · exact Fr.rf
theorem Fr.come {n : Nat} {c : Nat → Int32} (hn : n ≤ 7) : Fr c (mCome n c) := by
  unfold mCome
  split
  · rename_i r h
    exact Fr.up (by have := (fst_lt h).1; omega)
  · exact Fr.rf

set_option maxHeartbeats 4000000 in
theorem met_X4_tick (l : Launch) (D : va_G) (B0 : Nat) (A : Nat → Prop) (o : Nat) (ad : Nat → Nat) (x : Nat → Int32) (a : Nat) (wn : Nat → Int32) (c : Nat → Int32) (n : Nat) (k : Nat) (hn : c 17 = nI n) (hn7 : n ≤ 7) (hk : c 16 = nI k) (hk12 : k ≤ 12) : Met l yX4_tick (ws_ yX4_tick cX4_tick 5 none) (zRm 4 0 0) (va_Pc [.ref o, .ref a] (zPre B0 D A [mOb o ad x, [(ad 11, .inl (D.1 100, 25, .inl wn))], [(a, .inl (D.1 100, 25, .inl c))]])) (zQ (S := (Nat → Int32)) (fun u => (fun (wn1 : Nat → Int32) => True) u) (fun u => (fun (wn1 : Nat → Int32) => none) u) (fun u => (fun (wn1 : Nat → Int32) => [mOb o ad x, [(ad 11, .inl (D.1 100, 25, .inl wn1))], [(a, .inl (D.1 100, 25, .inl (mTick n k c)))]]) u) D A) 0 0 A := by
  refine z_entry (by decide +kernel) (Nat.le_of_ble_eq_true rfl) (fun pX eX sX mX argsX blX mtX cX QX hQX gX hAX hnm => ?_)
  refine z_eq (lv₂ := [(0, .ref o), (1, .ref a)]) (st₂ := []) ?_ rfl rfl
  refine z_iconst (pc := 0) gX 0 dX4_tick_0 (by decide) ?_
  refine z_istore_n (pc := 1) gX [1, 2, 0] [(0, .ref o), (1, .ref a), (2, .int 0)] dX4_tick_1 rfl (by decide) rfl ?_
  have L2 : ∀ (n2 : Nat) (i : Nat) (wc : Nat → Int32), (i ≤ n) → (∀ q, q < i → wc (2 + q) = c (2 + q)) → n - i < n2 → zJ pX l eX (zRm 4 0 0) sX mX argsX blX mtX cX QX 5 (zI D A sX [mOb o ad x, [(ad 11, .inl (D.1 100, 25, .inl wc))], [(a, .inl (D.1 100, 25, .inl c))]]) 0 0 2 [(0, .ref o), (1, .ref a), (2, .int (nI i))] [] := by
    intro n2
    induction n2 with
    | zero => exact fun i wc hi hwc hm2 => absurd hm2 (Nat.not_lt_zero _)
    | succ n2 ih2 =>
      intro i wc hi hwc hm2
      refine z_iload_n (pc := 2) gX 2 dX4_tick_2 rfl rfl ?_
      refine z_aload_n (pc := 3) gX 1 dX4_tick_3 rfl rfl ?_
      refine z_bipush (pc := 4) gX 17 dX4_tick_4 (by decide) ?_
      refine z_top (nI 17) rfl ?_
      refine z_iald (pc := 6) gX (zI_ok gX hAX) (j := 17) (n := 25) (f := c) (zm 2 rfl) (by omega) (by decide) dX4_tick_6 ?_
      refine z_top (nI n) hn ?_
      refine z_icmp_ge (pc := 7) gX 29 dX4_tick_7 (by decide) (fun c7 => ?_) (fun c7 => ?_)
      · skip
        have k7 : n ≤ i := (zn_le (a := n) (b := i) (by omega) (by omega)).mp c7
        refine z_aload_n (pc := 29) gX 1 dX4_tick_29 rfl rfl ?_
        refine z_bipush (pc := 30) gX 16 dX4_tick_30 (by decide) ?_
        refine z_top (nI 16) rfl ?_
        refine z_iald (pc := 32) gX (zI_ok gX hAX) (j := 16) (n := 25) (f := c) (zm 2 rfl) (by omega) (by decide) dX4_tick_32 ?_
        refine z_top (nI k) hk ?_
        refine z_iconst (pc := 33) gX 1 dX4_tick_33 (by decide) ?_
        refine z_isub (pc := 34) gX dX4_tick_34 ?_
        refine z_istore_n (pc := 35) gX [1, 2, 0] [(0, .ref o), (1, .ref a), (2, .int ((nI k) - 1))] dX4_tick_35 rfl (by decide) rfl ?_
        have hwn : ∀ q, q < n → wc (2 + q) = c (2 + q) := fun q hq => hwc q (by omega)
        have L36 : ∀ (n36 : Nat) (j : Nat) (cu : Nat → Int32), (j ≤ k) → (Fr c cu) → ((ordC n c j).foldl (mMv n) cu = mPh1 n k c) → j < n36 → zJ pX l eX (zRm 4 0 0) sX mX argsX blX mtX cX QX 5 (zI D A sX [mOb o ad x, [(ad 11, .inl (D.1 100, 25, .inl wc))], [(a, .inl (D.1 100, 25, .inl cu))]]) 0 0 36 [(0, .ref o), (1, .ref a), (2, .int (nI j - 1))] [] := by
          intro n36
          induction n36 with
          | zero => exact fun j cu hj hfr36 hrem36 hm36 => absurd hm36 (Nat.not_lt_zero _)
          | succ n36 ih36 =>
            intro j cu hj hfr36 hrem36 hm36
            refine z_iload_n (pc := 36) gX 2 dX4_tick_36 rfl rfl ?_
            refine z_if_lt (pc := 37) gX 107 dX4_tick_37 (by decide) (fun c37 => ?_) (fun c37 => ?_)
            · skip
              have hj0 := zpred_neg c37 (by omega)
              subst hj0
              have hc1 : cu = mPh1 n k c := hrem36
              refine z_iconst (pc := 107) gX 0 dX4_tick_107 (by decide) ?_
              refine z_istore_n (pc := 108) gX [1, 2, 0] [(0, .ref o), (1, .ref a), (2, .int 0)] dX4_tick_108 rfl (by decide) rfl ?_
              have L109 : ∀ (n109 : Nat) (q : Nat) (cv : Nat → Int32), (q ≤ n) → (Fr c cv) → (cv = mPh2 (mPh1 n k c) q) → n - q < n109 → zJ pX l eX (zRm 4 0 0) sX mX argsX blX mtX cX QX 5 (zI D A sX [mOb o ad x, [(ad 11, .inl (D.1 100, 25, .inl wc))], [(a, .inl (D.1 100, 25, .inl cv))]]) 0 0 109 [(0, .ref o), (1, .ref a), (2, .int (nI q))] [] := by
                intro n109
                induction n109 with
                | zero => exact fun q cv hq hfrv hcv hm109 => absurd hm109 (Nat.not_lt_zero _)
                | succ n109 ih109 =>
                  intro q cv hq hfrv hcv hm109
                  refine z_iload_n (pc := 109) gX 2 dX4_tick_109 rfl rfl ?_
                  refine z_aload_n (pc := 110) gX 1 dX4_tick_110 rfl rfl ?_
                  refine z_bipush (pc := 111) gX 17 dX4_tick_111 (by decide) ?_
                  refine z_top (nI 17) rfl ?_
                  refine z_iald (pc := 113) gX (zI_ok gX hAX) (j := 17) (n := 25) (f := cv) (zm 2 rfl) (by omega) (by decide) dX4_tick_113 ?_
                  refine z_top (nI n) ((hfrv 17 (by omega)).trans hn) ?_
                  refine z_icmp_ge (pc := 114) gX 172 dX4_tick_114 (by decide) (fun c114 => ?_) (fun c114 => ?_)
                  · skip
                    have k114 : n ≤ q := (zn_le (a := n) (b := q) (by omega) (by omega)).mp c114
                    refine z_iconst (pc := 172) gX (-1) dX4_tick_172 (by decide) ?_
                    refine z_istore_n (pc := 173) gX [1, 2, 0] [(0, .ref o), (1, .ref a), (2, .int (-1))] dX4_tick_173 rfl (by decide) rfl ?_
                    refine z_aload_n (pc := 174) gX 1 dX4_tick_174 rfl rfl ?_
                    refine z_bipush (pc := 175) gX 17 dX4_tick_175 (by decide) ?_
                    refine z_top (nI 17) rfl ?_
                    refine z_iald (pc := 177) gX (zI_ok gX hAX) (j := 17) (n := 25) (f := cv) (zm 2 rfl) (by omega) (by decide) dX4_tick_177 ?_
                    refine z_top (nI n) ((hfrv 17 (by omega)).trans hn) ?_
                    refine z_iconst (pc := 178) gX 1 dX4_tick_178 (by decide) ?_
                    refine z_isub (pc := 179) gX dX4_tick_179 ?_
                    refine z_istore_n (pc := 180) gX [1, 2, 3, 0] [(0, .ref o), (1, .ref a), (2, .int (-1)), (3, .int ((nI n) - 1))] dX4_tick_180 rfl (by decide) rfl ?_
                    have L181 : ∀ (n181 : Nat) (j3 : Nat) (nx : Int32), (j3 ≤ n) → (nx = nxI (fstF (mCand n cv) (n - j3) j3)) → j3 < n181 → zJ pX l eX (zRm 4 0 0) sX mX argsX blX mtX cX QX 5 (zI D A sX [mOb o ad x, [(ad 11, .inl (D.1 100, 25, .inl wc))], [(a, .inl (D.1 100, 25, .inl cv))]]) 0 0 181 [(0, .ref o), (1, .ref a), (2, .int nx), (3, .int (nI j3 - 1))] [] := by
                      intro n181
                      induction n181 with
                      | zero => exact fun j3 nx hj3 hnx hm181 => absurd hm181 (Nat.not_lt_zero _)
                      | succ n181 ih181 =>
                        intro j3 nx hj3 hnx hm181
                        refine z_iload_n (pc := 181) gX 3 dX4_tick_181 rfl rfl ?_
                        refine z_if_lt (pc := 182) gX 221 dX4_tick_182 (by decide) (fun c182 => ?_) (fun c182 => ?_)
                        · skip
                          have hj30 := zpred_neg c182 (by omega)
                          subst hj30
                          have hnx : nx = nxI (fstF (mCand n cv) n 0) := hnx
                          refine z_iload_n (pc := 221) gX 2 dX4_tick_221 rfl rfl ?_
                          refine z_if_lt (pc := 222) gX 231 dX4_tick_222 (by decide) (fun c222 => ?_) (fun c222 => ?_)
                          · skip
                            rw [hnx] at c222
                            have hno := nxI_none c222 (fun r h => by have := (fst_lt h).1; omega)
                            refine z_aload_n (pc := 231) gX 1 dX4_tick_231 rfl rfl ?_
                            refine z_iconst (pc := 232) gX 0 dX4_tick_232 (by decide) ?_
                            refine z_dup2 (pc := 233) gX dX4_tick_233 rfl rfl ?_
                            refine z_top (nI 0) rfl ?_
                            refine z_iald (pc := 234) gX (zI_ok gX hAX) (j := 0) (n := 25) (f := cv) (zm 2 rfl) (by omega) (by decide) dX4_tick_234 ?_
                            refine z_iconst (pc := 235) gX 1 dX4_tick_235 (by decide) ?_
                            refine z_iadd (pc := 236) gX dX4_tick_236 ?_
                            refine z_ixtop (nI 0) rfl ?_
                            refine z_iast (pc := 237) gX hAX 2 (j := 0) (n := 25) (f := cv) rfl (by omega) (by decide) [mOb o ad x, [(ad 11, .inl (D.1 100, 25, .inl wc))], [(a, .inl (D.1 100, 25, .inl (upd cv 0 ((cv 0) + 1))))]] rfl dX4_tick_237 ?_
                            exact z_vret gX hQX wc trivial rfl (by rw [show mTick n k c = upd cv 0 ((cv 0) + 1) by rw [mTick, ← show cv = mPh2 (mPh1 n k c) n by rw [hcv, show q = n by omega]]; simp only [mCome, hno]]) (by first | decide | omega) (by first | decide | omega) dX4_tick_238
                          · skip
                            rw [hnx] at c222
                            obtain ⟨rr, hrr⟩ := nxI_some c222
                            have hrn := (fst_lt hrr).1
                            rw [hrr] at hnx
                            have hnx : nx = nI rr := hnx
                            refine z_eq (lv₂ := [(0, .ref o), (1, .ref a), (2, .int (nI rr)), (3, .int (nI 0 - 1))]) (st₂ := []) ?_ (by rw [hnx]) rfl
                            refine z_aload_n (pc := 225) gX 1 dX4_tick_225 rfl rfl ?_
                            refine z_iconst (pc := 226) gX 2 dX4_tick_226 (by decide) ?_
                            refine z_iload_n (pc := 227) gX 2 dX4_tick_227 rfl rfl ?_
                            refine z_iadd (pc := 228) gX dX4_tick_228 ?_
                            refine z_top (nI (2 + rr)) (nI_add 2 rr) ?_
                            refine z_iconst (pc := 229) gX 0 dX4_tick_229 (by decide) ?_
                            refine z_iast (pc := 230) gX hAX 2 (j := (2 + rr)) (n := 25) (f := cv) rfl (by omega) (by decide) [mOb o ad x, [(ad 11, .inl (D.1 100, 25, .inl wc))], [(a, .inl (D.1 100, 25, .inl (upd cv (2 + rr) 0)))]] rfl dX4_tick_230 ?_
                            refine z_aload_n (pc := 231) gX 1 dX4_tick_231 rfl rfl ?_
                            refine z_iconst (pc := 232) gX 0 dX4_tick_232 (by decide) ?_
                            refine z_dup2 (pc := 233) gX dX4_tick_233 rfl rfl ?_
                            refine z_top (nI 0) rfl ?_
                            refine z_iald (pc := 234) gX (zI_ok gX hAX) (j := 0) (n := 25) (f := (upd cv (2 + rr) 0)) (zm 2 rfl) (by omega) (by decide) dX4_tick_234 ?_
                            refine z_iconst (pc := 235) gX 1 dX4_tick_235 (by decide) ?_
                            refine z_iadd (pc := 236) gX dX4_tick_236 ?_
                            refine z_ixtop (nI 0) rfl ?_
                            refine z_iast (pc := 237) gX hAX 2 (j := 0) (n := 25) (f := (upd cv (2 + rr) 0)) rfl (by omega) (by decide) [mOb o ad x, [(ad 11, .inl (D.1 100, 25, .inl wc))], [(a, .inl (D.1 100, 25, .inl (upd (upd cv (2 + rr) 0) 0 (((upd cv (2 + rr) 0) 0) + 1))))]] rfl dX4_tick_237 ?_
                            exact z_vret gX hQX wc trivial rfl (by rw [show mTick n k c = upd (upd cv (2 + rr) 0) 0 (((upd cv (2 + rr) 0) 0) + 1) by rw [mTick, ← show cv = mPh2 (mPh1 n k c) n by rw [hcv, show q = n by omega]]; simp only [mCome, hrr, pk_un (show 0 ≠ 2 + rr by omega)]]) (by first | decide | omega) (by first | decide | omega) dX4_tick_238
                        · skip
                          obtain ⟨i3, rfl⟩ := zpred_pos c182
                          refine z_eq (lv₂ := [(0, .ref o), (1, .ref a), (2, .int nx), (3, .int (nI i3))]) (st₂ := []) ?_ (by rw [nI_pred]) rfl
                          refine z_aload_n (pc := 185) gX 1 dX4_tick_185 rfl rfl ?_
                          refine z_iconst (pc := 186) gX 2 dX4_tick_186 (by decide) ?_
                          refine z_iload_n (pc := 187) gX 3 dX4_tick_187 rfl rfl ?_
                          refine z_iadd (pc := 188) gX dX4_tick_188 ?_
                          refine z_top (nI (2 + i3)) (nI_add 2 i3) ?_
                          refine z_iald (pc := 189) gX (zI_ok gX hAX) (j := (2 + i3)) (n := 25) (f := cv) (zm 2 rfl) (by omega) (by decide) dX4_tick_189 ?_
                          refine z_iconst (pc := 190) gX (-1) dX4_tick_190 (by decide) ?_
                          refine z_icmp_ne (pc := 191) gX 213 dX4_tick_191 (by decide) (fun c191 => ?_) (fun c191 => ?_)
                          · skip
                            refine z_iload_n (pc := 213) gX 2 dX4_tick_213 rfl rfl ?_
                            refine z_istore_n (pc := 214) gX [1, 2, 0, 3] [(0, .ref o), (1, .ref a), (2, .int nx), (3, .int (nI i3))] dX4_tick_214 rfl (by decide) rfl ?_
                            refine z_iinc (pc := 215) gX 3 (nI i3 - 1) [1, 2, 3, 0] [(0, .ref o), (1, .ref a), (2, .int nx), (3, .int (nI i3 - 1))] dX4_tick_215 rfl (zm1 _) (by decide) rfl ?_
                            refine z_goto (pc := 218) gX 181 dX4_tick_218 (by decide) ?_
                            exact ih181 i3 nx (by omega) (by rw [fst_s (show i3 < n by omega), if_neg (by simp [mCand, c191])]; exact hnx) (by omega)
                          · skip
                            refine z_aload_n (pc := 194) gX 1 dX4_tick_194 rfl rfl ?_
                            refine z_iload_n (pc := 195) gX 3 dX4_tick_195 rfl rfl ?_
                            refine z_iconst (pc := 196) gX 0 dX4_tick_196 (by decide) ?_
                            refine z_aload_n (pc := 197) gX 1 dX4_tick_197 rfl rfl ?_
                            refine z_bipush (pc := 198) gX 9 dX4_tick_198 (by decide) ?_
                            refine z_iload_n (pc := 200) gX 3 dX4_tick_200 rfl rfl ?_
                            refine z_iadd (pc := 201) gX dX4_tick_201 ?_
                            refine z_top (nI (9 + i3)) (nI_add 9 i3) ?_
                            refine z_iald (pc := 202) gX (zI_ok gX hAX) (j := (9 + i3)) (n := 25) (f := cv) (zm 2 rfl) (by omega) (by decide) dX4_tick_202 ?_
                            refine z_cOS (pc := 203) gX (zI_ok gX hAX) [.ref a, .int (nI i3), .int 0, .int (cv (9 + i3))] [] [2] (met_X4_isFree l D B0 a cv n i3 0 (cv (9 + i3)) ((hfrv 17 (by omega)).trans hn) (by first | assumption | omega) (by first | assumption | omega)) q1547 q1548 q54 q1549 hd_X4_isFree ⟨rfl, rfl⟩ ⟨(Nat.le_of_ble_eq_true rfl), (Nat.le_of_ble_eq_true rfl)⟩ rfl rfl rfl (Nat.le_of_ble_eq_true rfl) ⟨(Nat.le_of_ble_eq_true rfl), (Nat.le_of_ble_eq_true rfl)⟩ dX4_tick_203 ?_
                            intro _ hu203
                            refine z_eq (lv₂ := [(0, .ref o), (1, .ref a), (2, .int nx), (3, .int (nI i3))]) (st₂ := [.int (bI (mFreeTo cv i3 0 (cv (9 + i3)) n))]) ?_ rfl rfl
                            refine z_if_eq (pc := 206) gX 213 dX4_tick_206 (by decide) (fun c206 => ?_) (fun c206 => ?_)
                            · skip
                              have k206 : (mFreeTo cv i3 0 (cv (9 + i3)) n) = false := bI_eq0 c206
                              refine z_iload_n (pc := 213) gX 2 dX4_tick_213 rfl rfl ?_
                              refine z_istore_n (pc := 214) gX [1, 2, 0, 3] [(0, .ref o), (1, .ref a), (2, .int nx), (3, .int (nI i3))] dX4_tick_214 rfl (by decide) rfl ?_
                              refine z_iinc (pc := 215) gX 3 (nI i3 - 1) [1, 2, 3, 0] [(0, .ref o), (1, .ref a), (2, .int nx), (3, .int (nI i3 - 1))] dX4_tick_215 rfl (zm1 _) (by decide) rfl ?_
                              refine z_goto (pc := 218) gX 181 dX4_tick_218 (by decide) ?_
                              exact ih181 i3 nx (by omega) (by rw [fst_s (show i3 < n by omega), if_neg (by simp [mCand, c191, k206])]; exact hnx) (by omega)
                            · skip
                              have k206 : (mFreeTo cv i3 0 (cv (9 + i3)) n) = true := bI_ne0 c206
                              refine z_iload_n (pc := 209) gX 3 dX4_tick_209 rfl rfl ?_
                              refine z_goto (pc := 210) gX 214 dX4_tick_210 (by decide) ?_
                              refine z_istore_n (pc := 214) gX [1, 2, 0, 3] [(0, .ref o), (1, .ref a), (2, .int (nI i3)), (3, .int (nI i3))] dX4_tick_214 rfl (by decide) rfl ?_
                              refine z_iinc (pc := 215) gX 3 (nI i3 - 1) [1, 2, 3, 0] [(0, .ref o), (1, .ref a), (2, .int (nI i3)), (3, .int (nI i3 - 1))] dX4_tick_215 rfl (zm1 _) (by decide) rfl ?_
                              refine z_goto (pc := 218) gX 181 dX4_tick_218 (by decide) ?_
                              exact ih181 i3 (nI i3) (by omega) (by rw [fst_s (show i3 < n by omega), if_pos (by simp [mCand, c191, k206])]; rfl) (by omega)
                    exact L181 (n + 1) n (-1) (by omega) (by rw [Nat.sub_self]; rfl) (Nat.lt_succ_self _)
                  · skip
                    have k114 : q < n := (zn_nle (a := n) (b := q) (by omega) (by omega)).mp c114
                    refine z_aload_n (pc := 117) gX 1 dX4_tick_117 rfl rfl ?_
                    refine z_iconst (pc := 118) gX 2 dX4_tick_118 (by decide) ?_
                    refine z_iload_n (pc := 119) gX 2 dX4_tick_119 rfl rfl ?_
                    refine z_iadd (pc := 120) gX dX4_tick_120 ?_
                    refine z_top (nI (2 + q)) (nI_add 2 q) ?_
                    refine z_iald (pc := 121) gX (zI_ok gX hAX) (j := (2 + q)) (n := 25) (f := cv) (zm 2 rfl) (by omega) (by decide) dX4_tick_121 ?_
                    refine z_cOS (pc := 122) gX (zI_ok gX hAX) [.int (cv (2 + q))] [] [] (met_X4_isOn l D B0 (cv (2 + q)) ) q1550 q1551 q54 q1552 hd_X4_isOn ⟨rfl, rfl⟩ ⟨(Nat.le_of_ble_eq_true rfl), (Nat.le_of_ble_eq_true rfl)⟩ rfl rfl rfl (Nat.le_of_ble_eq_true rfl) ⟨(Nat.le_of_ble_eq_true rfl), (Nat.le_of_ble_eq_true rfl)⟩ dX4_tick_122 ?_
                    intro _ hu122
                    refine z_eq (lv₂ := [(0, .ref o), (1, .ref a), (2, .int (nI q))]) (st₂ := [.int (bI (mOn (cv (2 + q))))]) ?_ rfl rfl
                    refine z_if_eq (pc := 125) gX 166 dX4_tick_125 (by decide) (fun c125 => ?_) (fun c125 => ?_)
                    · skip
                      have k125 : (mOn (cv (2 + q))) = false := bI_eq0 c125
                      refine z_iinc (pc := 166) gX 2 (nI (q + 1)) [1, 2, 0] [(0, .ref o), (1, .ref a), (2, .int (nI (q + 1)))] dX4_tick_166 rfl (nI_1 _) (by decide) rfl ?_
                      refine z_goto (pc := 169) gX 109 dX4_tick_169 (by decide) ?_
                      exact ih109 (q + 1) cv (by omega) hfrv (by show _ = mRide (mPh2 (mPh1 n k c) q) q; rw [← hcv]; simp [mRide, k125]) (by omega)
                    · skip
                      have k125 : (mOn (cv (2 + q))) = true := bI_ne0 c125
                      refine z_aload_n (pc := 128) gX 1 dX4_tick_128 rfl rfl ?_
                      refine z_iconst (pc := 129) gX 2 dX4_tick_129 (by decide) ?_
                      refine z_iload_n (pc := 130) gX 2 dX4_tick_130 rfl rfl ?_
                      refine z_iadd (pc := 131) gX dX4_tick_131 ?_
                      refine z_top (nI (2 + q)) (nI_add 2 q) ?_
                      refine z_dup2 (pc := 132) gX dX4_tick_132 rfl rfl ?_
                      refine z_iald (pc := 133) gX (zI_ok gX hAX) (j := (2 + q)) (n := 25) (f := cv) (zm 2 rfl) (by omega) (by decide) dX4_tick_133 ?_
                      refine z_aload_n (pc := 134) gX 1 dX4_tick_134 rfl rfl ?_
                      refine z_iconst (pc := 135) gX 1 dX4_tick_135 (by decide) ?_
                      refine z_top (nI 1) rfl ?_
                      refine z_iald (pc := 136) gX (zI_ok gX hAX) (j := 1) (n := 25) (f := cv) (zm 2 rfl) (by omega) (by decide) dX4_tick_136 ?_
                      refine z_iadd (pc := 137) gX dX4_tick_137 ?_
                      refine z_iast (pc := 138) gX hAX 2 (j := (2 + q)) (n := 25) (f := cv) rfl (by omega) (by decide) [mOb o ad x, [(ad 11, .inl (D.1 100, 25, .inl wc))], [(a, .inl (D.1 100, 25, .inl (upd cv (2 + q) ((cv (2 + q)) + (cv 1)))))]] rfl dX4_tick_138 ?_
                      refine z_aload_n (pc := 139) gX 1 dX4_tick_139 rfl rfl ?_
                      refine z_iconst (pc := 140) gX 2 dX4_tick_140 (by decide) ?_
                      refine z_iload_n (pc := 141) gX 2 dX4_tick_141 rfl rfl ?_
                      refine z_iadd (pc := 142) gX dX4_tick_142 ?_
                      refine z_top (nI (2 + q)) (nI_add 2 q) ?_
                      refine z_aload_n (pc := 143) gX 1 dX4_tick_143 rfl rfl ?_
                      refine z_iconst (pc := 144) gX 2 dX4_tick_144 (by decide) ?_
                      refine z_iload_n (pc := 145) gX 2 dX4_tick_145 rfl rfl ?_
                      refine z_iadd (pc := 146) gX dX4_tick_146 ?_
                      refine z_top (nI (2 + q)) (nI_add 2 q) ?_
                      refine z_iald (pc := 147) gX (zI_ok gX hAX) (j := (2 + q)) (n := 25) (f := (upd cv (2 + q) ((cv (2 + q)) + (cv 1)))) (zm 2 rfl) (by omega) (by decide) dX4_tick_147 ?_
                      refine z_top (cv (2 + q) + cv 1) pk_us ?_
                      refine z_aload_n (pc := 148) gX 1 dX4_tick_148 rfl rfl ?_
                      refine z_bipush (pc := 149) gX 16 dX4_tick_149 (by decide) ?_
                      refine z_top (nI 16) rfl ?_
                      refine z_iald (pc := 151) gX (zI_ok gX hAX) (j := 16) (n := 25) (f := (upd cv (2 + q) ((cv (2 + q)) + (cv 1)))) (zm 2 rfl) (by omega) (by decide) dX4_tick_151 ?_
                      refine z_top (cv 16) (pk_un (by omega)) ?_
                      refine z_icmp_lt (pc := 152) gX 160 dX4_tick_152 (by decide) (fun c152 => ?_) (fun c152 => ?_)
                      · skip
                        refine z_aload_n (pc := 160) gX 1 dX4_tick_160 rfl rfl ?_
                        refine z_iconst (pc := 161) gX 2 dX4_tick_161 (by decide) ?_
                        refine z_iload_n (pc := 162) gX 2 dX4_tick_162 rfl rfl ?_
                        refine z_iadd (pc := 163) gX dX4_tick_163 ?_
                        refine z_top (nI (2 + q)) (nI_add 2 q) ?_
                        refine z_iald (pc := 164) gX (zI_ok gX hAX) (j := (2 + q)) (n := 25) (f := (upd cv (2 + q) ((cv (2 + q)) + (cv 1)))) (zm 2 rfl) (by omega) (by decide) dX4_tick_164 ?_
                        refine z_top (cv (2 + q) + cv 1) pk_us ?_
                        refine z_iast (pc := 165) gX hAX 2 (j := (2 + q)) (n := 25) (f := (upd cv (2 + q) ((cv (2 + q)) + (cv 1)))) rfl (by omega) (by decide) [mOb o ad x, [(ad 11, .inl (D.1 100, 25, .inl wc))], [(a, .inl (D.1 100, 25, .inl (upd (upd cv (2 + q) ((cv (2 + q)) + (cv 1))) (2 + q) (cv (2 + q) + cv 1))))]] rfl dX4_tick_165 ?_
                        refine z_iinc (pc := 166) gX 2 (nI (q + 1)) [1, 2, 0] [(0, .ref o), (1, .ref a), (2, .int (nI (q + 1)))] dX4_tick_166 rfl (nI_1 _) (by decide) rfl ?_
                        refine z_goto (pc := 169) gX 109 dX4_tick_169 (by decide) ?_
                        exact ih109 (q + 1) (upd (upd cv (2 + q) ((cv (2 + q)) + (cv 1))) (2 + q) (cv (2 + q) + cv 1)) (by omega) ((hfrv.tr (Fr.up (by omega))).tr (Fr.up (by omega))) (by show _ = mRide (mPh2 (mPh1 n k c) q) q; rw [← hcv]; simp [mRide, k125, c152, upd_upd]) (by omega)
                      · skip
                        refine z_bipush (pc := 155) gX 99 dX4_tick_155 (by decide) ?_
                        refine z_goto (pc := 157) gX 165 dX4_tick_157 (by decide) ?_
                        refine z_iast (pc := 165) gX hAX 2 (j := (2 + q)) (n := 25) (f := (upd cv (2 + q) ((cv (2 + q)) + (cv 1)))) rfl (by omega) (by decide) [mOb o ad x, [(ad 11, .inl (D.1 100, 25, .inl wc))], [(a, .inl (D.1 100, 25, .inl (upd (upd cv (2 + q) ((cv (2 + q)) + (cv 1))) (2 + q) 99)))]] rfl dX4_tick_165 ?_
                        refine z_iinc (pc := 166) gX 2 (nI (q + 1)) [1, 2, 0] [(0, .ref o), (1, .ref a), (2, .int (nI (q + 1)))] dX4_tick_166 rfl (nI_1 _) (by decide) rfl ?_
                        refine z_goto (pc := 169) gX 109 dX4_tick_169 (by decide) ?_
                        exact ih109 (q + 1) (upd (upd cv (2 + q) ((cv (2 + q)) + (cv 1))) (2 + q) 99) (by omega) ((hfrv.tr (Fr.up (by omega))).tr (Fr.up (by omega))) (by show _ = mRide (mPh2 (mPh1 n k c) q) q; rw [← hcv]; simp [mRide, k125, c152, upd_upd]) (by omega)
              exact L109 ((n - 0) + 1) 0 cu (by omega) hfr36 hc1 (Nat.lt_succ_self _)
            · skip
              obtain ⟨j0, rfl⟩ := zpred_pos c37
              refine z_eq (lv₂ := [(0, .ref o), (1, .ref a), (2, .int (nI j0))]) (st₂ := []) ?_ (by rw [nI_pred]) rfl
              refine z_iconst (pc := 40) gX 0 dX4_tick_40 (by decide) ?_
              refine z_istore_n (pc := 41) gX [1, 2, 3, 0] [(0, .ref o), (1, .ref a), (2, .int (nI j0)), (3, .int 0)] dX4_tick_41 rfl (by decide) rfl ?_
              have L42 : ∀ (n42 : Nat) (la : Nat) (cu2 : Nat → Int32), (la ≤ 2) → (Fr c cu2) → ((lnF (fun r => c (2 + r)) (fun r => c (9 + r)) n (nI j0) la ++ ordC n c j0).foldl (mMv n) cu2 = mPh1 n k c) → 2 - la < n42 → zJ pX l eX (zRm 4 0 0) sX mX argsX blX mtX cX QX 5 (zI D A sX [mOb o ad x, [(ad 11, .inl (D.1 100, 25, .inl wc))], [(a, .inl (D.1 100, 25, .inl cu2))]]) 0 0 42 [(0, .ref o), (1, .ref a), (2, .int (nI j0)), (3, .int (nI la))] [] := by
                intro n42
                induction n42 with
                | zero => exact fun la cu2 hla hfr42 hrem42 hm42 => absurd hm42 (Nat.not_lt_zero _)
                | succ n42 ih42 =>
                  intro la cu2 hla hfr42 hrem42 hm42
                  refine z_iload_n (pc := 42) gX 3 dX4_tick_42 rfl rfl ?_
                  refine z_iconst (pc := 43) gX 2 dX4_tick_43 (by decide) ?_
                  refine z_icmp_ge (pc := 44) gX 101 dX4_tick_44 (by decide) (fun c44 => ?_) (fun c44 => ?_)
                  · skip
                    have k44 : 2 ≤ la := (zn_le (a := 2) (b := la) (by omega) (by omega)).mp c44
                    refine z_iinc (pc := 101) gX 2 (nI j0 - 1) [1, 2, 0, 3] [(0, .ref o), (1, .ref a), (2, .int (nI j0 - 1)), (3, .int (nI la))] dX4_tick_101 rfl (zm1 _) (by decide) rfl ?_
                    refine z_goto (pc := 104) gX 36 dX4_tick_104 (by decide) ?_
                    refine z_lv [0, 1, 2] [(0, .ref o), (1, .ref a), (2, .int (nI j0 - 1))] rfl ?_
                    exact ih36 j0 cu2 (by omega) hfr42 (by rw [show la = 2 by omega] at hrem42; exact hrem42) (by omega)
                  · skip
                    have k44 : la < 2 := (zn_nle (a := 2) (b := la) (by omega) (by omega)).mp c44
                    refine z_iconst (pc := 47) gX 0 dX4_tick_47 (by decide) ?_
                    refine z_istore (pc := 48) gX [1, 2, 3, 4, 0] [(0, .ref o), (1, .ref a), (2, .int (nI j0)), (3, .int (nI la)), (4, .int 0)] dX4_tick_48 (by decide) rfl ?_
                    have L50 : ∀ (n50 : Nat) (r : Nat) (cu3 : Nat → Int32), (r ≤ n) → (Fr c cu3) → ((ordF (fun r => c (2 + r)) (fun r => c (9 + r)) (nI j0) (nI la) (n - r) r ++ (lnF (fun r => c (2 + r)) (fun r => c (9 + r)) n (nI j0) (la + 1) ++ ordC n c j0)).foldl (mMv n) cu3 = mPh1 n k c) → n - r < n50 → zJ pX l eX (zRm 4 0 0) sX mX argsX blX mtX cX QX 5 (zI D A sX [mOb o ad x, [(ad 11, .inl (D.1 100, 25, .inl wc))], [(a, .inl (D.1 100, 25, .inl cu3))]]) 0 0 50 [(0, .ref o), (1, .ref a), (2, .int (nI j0)), (3, .int (nI la)), (4, .int (nI r))] [] := by
                      intro n50
                      induction n50 with
                      | zero => exact fun r cu3 hr50 hfr50 hrem50 hm50 => absurd hm50 (Nat.not_lt_zero _)
                      | succ n50 ih50 =>
                        intro r cu3 hr50 hfr50 hrem50 hm50
                        refine z_iload (pc := 50) gX 4 dX4_tick_50 rfl ?_
                        refine z_aload_n (pc := 52) gX 1 dX4_tick_52 rfl rfl ?_
                        refine z_bipush (pc := 53) gX 17 dX4_tick_53 (by decide) ?_
                        refine z_top (nI 17) rfl ?_
                        refine z_iald (pc := 55) gX (zI_ok gX hAX) (j := 17) (n := 25) (f := cu3) (zm 2 rfl) (by omega) (by decide) dX4_tick_55 ?_
                        refine z_top (nI n) ((hfr50 17 (by omega)).trans hn) ?_
                        refine z_icmp_ge (pc := 56) gX 95 dX4_tick_56 (by decide) (fun c56 => ?_) (fun c56 => ?_)
                        · skip
                          have k56 : n ≤ r := (zn_le (a := n) (b := r) (by omega) (by omega)).mp c56
                          refine z_iinc (pc := 95) gX 3 (nI (la + 1)) [1, 2, 3, 0, 4] [(0, .ref o), (1, .ref a), (2, .int (nI j0)), (3, .int (nI (la + 1))), (4, .int (nI r))] dX4_tick_95 rfl (nI_1 _) (by decide) rfl ?_
                          refine z_goto (pc := 98) gX 42 dX4_tick_98 (by decide) ?_
                          refine z_lv [0, 1, 2, 3] [(0, .ref o), (1, .ref a), (2, .int (nI j0)), (3, .int (nI (la + 1)))] rfl ?_
                          exact ih42 (la + 1) cu3 (by omega) hfr50 (by rw [show n - r = 0 by omega] at hrem50; exact hrem50) (by omega)
                        · skip
                          have k56 : r < n := (zn_nle (a := n) (b := r) (by omega) (by omega)).mp c56
                          refine z_aload_n (pc := 59) gX 0 dX4_tick_59 rfl rfl ?_
                          refine z_get (pc := 60) gX (zI_ok gX hAX) (zm 0 rfl) (ci := 4) (C := RX4) (T := TX4) (N := 20) rfl in_X4 15 (by decide) q1398 (fun _ h => h) (v := .ref (ad 11)) rfl dX4_tick_60 ?_
                          refine z_iconst (pc := 63) gX 2 dX4_tick_63 (by decide) ?_
                          refine z_iload (pc := 64) gX 4 dX4_tick_64 rfl ?_
                          refine z_iadd (pc := 66) gX dX4_tick_66 ?_
                          refine z_top (nI (2 + r)) (nI_add 2 r) ?_
                          refine z_iald (pc := 67) gX (zI_ok gX hAX) (j := (2 + r)) (n := 25) (f := wc) (zm 1 rfl) (by omega) (by decide) dX4_tick_67 ?_
                          refine z_top (c (2 + r)) (hwn r k56) ?_
                          refine z_iload_n (pc := 68) gX 2 dX4_tick_68 rfl rfl ?_
                          refine z_icmp_ne (pc := 69) gX 89 dX4_tick_69 (by decide) (fun c69 => ?_) (fun c69 => ?_)
                          · skip
                            refine z_iinc (pc := 89) gX 4 (nI (r + 1)) [1, 2, 3, 4, 0] [(0, .ref o), (1, .ref a), (2, .int (nI j0)), (3, .int (nI la)), (4, .int (nI (r + 1)))] dX4_tick_89 rfl (nI_1 _) (by decide) rfl ?_
                            refine z_goto (pc := 92) gX 50 dX4_tick_92 (by decide) ?_
                            exact ih50 (r + 1) cu3 (by omega) hfr50 (by rw [ordF_s k56, if_neg (fun h => c69 h.1)] at hrem50; exact hrem50) (by omega)
                          · skip
                            refine z_aload_n (pc := 72) gX 1 dX4_tick_72 rfl rfl ?_
                            refine z_bipush (pc := 73) gX 9 dX4_tick_73 (by decide) ?_
                            refine z_iload (pc := 75) gX 4 dX4_tick_75 rfl ?_
                            refine z_iadd (pc := 77) gX dX4_tick_77 ?_
                            refine z_top (nI (9 + r)) (nI_add 9 r) ?_
                            refine z_iald (pc := 78) gX (zI_ok gX hAX) (j := (9 + r)) (n := 25) (f := cu3) (zm 2 rfl) (by omega) (by decide) dX4_tick_78 ?_
                            refine z_top (c (9 + r)) (hfr50 (9 + r) (by omega)) ?_
                            refine z_iload_n (pc := 79) gX 3 dX4_tick_79 rfl rfl ?_
                            refine z_icmp_ne (pc := 80) gX 89 dX4_tick_80 (by decide) (fun c80 => ?_) (fun c80 => ?_)
                            · skip
                              refine z_iinc (pc := 89) gX 4 (nI (r + 1)) [1, 2, 3, 4, 0] [(0, .ref o), (1, .ref a), (2, .int (nI j0)), (3, .int (nI la)), (4, .int (nI (r + 1)))] dX4_tick_89 rfl (nI_1 _) (by decide) rfl ?_
                              refine z_goto (pc := 92) gX 50 dX4_tick_92 (by decide) ?_
                              exact ih50 (r + 1) cu3 (by omega) hfr50 (by rw [ordF_s k56, if_neg (fun h => c80 h.2)] at hrem50; exact hrem50) (by omega)
                            · skip
                              refine z_aload_n (pc := 83) gX 1 dX4_tick_83 rfl rfl ?_
                              refine z_iload (pc := 84) gX 4 dX4_tick_84 rfl ?_
                              refine z_cMS (pc := 86) gX hAX [.ref a, .int (nI r)] [] [2] [0, 1] (fun A1 => met_X4_moves l D B0 A1 a cu3 n r ((hfr50 17 (by omega)).trans hn) (by first | assumption | omega) (by first | assumption | omega)) q1541 q1542 q54 q1543 hd_X4_moves ⟨rfl, rfl⟩ ⟨(Nat.le_of_ble_eq_true rfl), (Nat.le_of_ble_eq_true rfl)⟩ rfl rfl rfl rfl rfl (Nat.le_of_ble_eq_true rfl) ⟨(Nat.le_of_ble_eq_true rfl), (Nat.le_of_ble_eq_true rfl)⟩ dX4_tick_86 ?_
                              intro _ hu86
                              refine z_re [1, 2, 0] [mOb o ad x, [(ad 11, .inl (D.1 100, 25, .inl wc))], [(a, .inl (D.1 100, 25, .inl (mMv n cu3 r)))]] rfl rfl ?_
                              refine z_eq (lv₂ := [(0, .ref o), (1, .ref a), (2, .int (nI j0)), (3, .int (nI la)), (4, .int (nI r))]) (st₂ := []) ?_ rfl rfl
                              refine z_iinc (pc := 89) gX 4 (nI (r + 1)) [1, 2, 3, 4, 0] [(0, .ref o), (1, .ref a), (2, .int (nI j0)), (3, .int (nI la)), (4, .int (nI (r + 1)))] dX4_tick_89 rfl (nI_1 _) (by decide) rfl ?_
                              refine z_goto (pc := 92) gX 50 dX4_tick_92 (by decide) ?_
                              exact ih50 (r + 1) (mMv n cu3 r) (by omega) (hfr50.tr (Fr.mv (by omega))) (by rw [ordF_s k56, if_pos ⟨c69, c80⟩] at hrem50; exact hrem50) (by omega)
                    exact L50 ((n - 0) + 1) 0 cu2 (by omega) hfr42 (by rw [lnF_s k44, List.append_assoc] at hrem42; exact hrem42) (Nat.lt_succ_self _)
              exact L42 ((2 - 0) + 1) 0 cu (by omega) hfr36 hrem36 (Nat.lt_succ_self _)
        exact L36 (k + 1) k c (by omega) Fr.rf rfl (Nat.lt_succ_self _)
      · skip
        have k7 : i < n := (zn_nle (a := n) (b := i) (by omega) (by omega)).mp c7
        refine z_aload_n (pc := 10) gX 0 dX4_tick_10 rfl rfl ?_
        refine z_get (pc := 11) gX (zI_ok gX hAX) (zm 0 rfl) (ci := 4) (C := RX4) (T := TX4) (N := 20) rfl in_X4 15 (by decide) q1398 (fun _ h => h) (v := .ref (ad 11)) rfl dX4_tick_11 ?_
        refine z_iconst (pc := 14) gX 2 dX4_tick_14 (by decide) ?_
        refine z_iload_n (pc := 15) gX 2 dX4_tick_15 rfl rfl ?_
        refine z_iadd (pc := 16) gX dX4_tick_16 ?_
        refine z_top (nI (2 + i)) (nI_add 2 i) ?_
        refine z_aload_n (pc := 17) gX 1 dX4_tick_17 rfl rfl ?_
        refine z_iconst (pc := 18) gX 2 dX4_tick_18 (by decide) ?_
        refine z_iload_n (pc := 19) gX 2 dX4_tick_19 rfl rfl ?_
        refine z_iadd (pc := 20) gX dX4_tick_20 ?_
        refine z_top (nI (2 + i)) (nI_add 2 i) ?_
        refine z_iald (pc := 21) gX (zI_ok gX hAX) (j := (2 + i)) (n := 25) (f := c) (zm 2 rfl) (by omega) (by decide) dX4_tick_21 ?_
        refine z_iast (pc := 22) gX hAX 1 (j := (2 + i)) (n := 25) (f := wc) rfl (by omega) (by decide) [mOb o ad x, [(ad 11, .inl (D.1 100, 25, .inl (upd wc (2 + i) (c (2 + i)))))], [(a, .inl (D.1 100, 25, .inl c))]] rfl dX4_tick_22 ?_
        refine z_iinc (pc := 23) gX 2 (nI (i + 1)) [1, 2, 0] [(0, .ref o), (1, .ref a), (2, .int (nI (i + 1)))] dX4_tick_23 rfl (nI_1 _) (by decide) rfl ?_
        refine z_goto (pc := 26) gX 2 dX4_tick_26 (by decide) ?_
        exact ih2 (i + 1) (upd wc (2 + i) (c (2 + i))) (by omega) (cpW_s hwc) (by omega)
  exact L2 ((n - 0) + 1) 0 wn (by omega) (fun q hq => absurd hq (Nat.not_lt_zero _)) (Nat.lt_succ_self _)
theorem hd_X4_tick : zHd yX4_tick 1 := by unfold zHd; decide +kernel

