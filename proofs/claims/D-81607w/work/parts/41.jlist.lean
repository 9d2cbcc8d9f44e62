set_option maxRecDepth 100000
/-! ArrayList, as far as it is reached: a list of n ≤ 10 references, its array of 10 places made at the first add -/
def clQ (f : Nat → Option Nat) (k : Nat) : Nat → Option Nat := fun i => if i < k then none else f i
theorem clQ_0 (f : Nat → Option Nat) : clQ f 0 = f := by funext i; simp only [clQ]; rw [if_neg (by omega)]
theorem clQ_s (f : Nat → Option Nat) (k : Nat) : va_up (clQ f k) k none = clQ f (k + 1) := by
  funext i
  simp only [clQ, va_up]
  by_cases h : i = k
  · rw [if_pos h, if_pos (by omega)]
  · rw [if_neg h]
    by_cases h2 : i < k
    · rw [if_pos h2, if_pos (by omega)]
    · rw [if_neg h2, if_neg (by omega)]

set_option maxHeartbeats 4000000 in
theorem met_J0_init (l : Launch) (D : va_G) (B0 : Nat) (A : Nat → Prop) (al : Nat)  : Met l yJ0_init (ws_ yJ0_init cJ0_init 1 none) (zRm 1 0 0) (va_Pc [.ref al] (zPre B0 D A [])) (zQ (S := Unit) (fun _ => True) (fun _ => none) (fun _ => []) D A) 0 0 A := by
  refine z_entry (by decide +kernel) (Nat.le_of_ble_eq_true rfl) (fun pX eX sX mX argsX blX mtX cX QX hQX gX hAX hnm => ?_)
  refine z_eq (lv₂ := [(0, .ref al)]) (st₂ := []) ?_ rfl rfl
  refine z_aload_n (pc := 0) gX 0 dJ0_init_0 rfl rfl ?_
  refine z_objInit (pc := 1) gX q128 q_oi2 q_oi3 dJ0_init_1 (Nat.le_of_ble_eq_true rfl) (Nat.le_of_ble_eq_true rfl) ?_
  exact z_vret gX hQX () trivial rfl rfl (by first | decide | omega) (by first | decide | omega) dJ0_init_4
theorem hd_J0_init : zHd yJ0_init 0 := by unfold zHd; decide +kernel

set_option maxHeartbeats 4000000 in
theorem met_J1_init (l : Launch) (D : va_G) (B0 : Nat) (A : Nat → Prop) (al : Nat)  : Met l yJ1_init (ws_ yJ1_init cJ1_init 1 none) (zRm 2 0 0) (va_Pc [.ref al] (zPre B0 D A [[(al, .inr (16, [.int 0, .null, .int 0]))]])) (zQ (S := Unit) (fun _ => True) (fun _ => none) (fun _ => [[(al, .inr (16, [.int 0, .null, .int 0]))]]) D A) 0 0 A := by
  refine z_entry (by decide +kernel) (Nat.le_of_ble_eq_true rfl) (fun pX eX sX mX argsX blX mtX cX QX hQX gX hAX hnm => ?_)
  refine z_eq (lv₂ := [(0, .ref al)]) (st₂ := []) ?_ rfl rfl
  refine z_aload_n (pc := 0) gX 0 dJ1_init_0 rfl rfl ?_
  refine z_cMI (pc := 1) gX hAX [] [] [] [0] (fun A1 => met_J0_init l D B0 A1 al ) q125 q126 q50 q127 rfl hd_J0_init ⟨rfl, rfl⟩ ⟨(Nat.le_of_ble_eq_true rfl), (Nat.le_of_ble_eq_true rfl)⟩ rfl rfl rfl rfl rfl (Nat.le_of_ble_eq_true rfl) ⟨(Nat.le_of_ble_eq_true rfl), (Nat.le_of_ble_eq_true rfl)⟩ dJ1_init_1 ?_
  intro _ hu1
  refine z_re [0] [[(al, .inr (16, [.int 0, .null, .int 0]))]] rfl rfl ?_
  refine z_eq (lv₂ := [(0, .ref al)]) (st₂ := []) ?_ rfl rfl
  refine z_aload_n (pc := 4) gX 0 dJ1_init_4 rfl rfl ?_
  refine z_iconst (pc := 5) gX 0 dJ1_init_5 (by decide) ?_
  refine z_put (pc := 6) gX hAX 0 rfl (ci := 16) (C := RJ2) (T := TJ2) (N := 3) rfl in_J2 tyJ2 tyJ2_ok nmJ2 0 (by decide) q133 (fun _ h => h) rfl (v := .int 0) rfl rfl (Nat.le_of_ble_eq_true rfl) [[(al, .inr (16, [.int 0, .null, .int 0]))]] rfl dJ1_init_6 ?_
  exact z_vret gX hQX () trivial rfl rfl (by first | decide | omega) (by first | decide | omega) dJ1_init_9
theorem hd_J1_init : zHd yJ1_init 0 := by unfold zHd; decide +kernel

set_option maxHeartbeats 4000000 in
theorem met_J2_init (l : Launch) (D : va_G) (B0 : Nat) (A : Nat → Prop) (al : Nat)  : Met l yJ2_init (ws_ yJ2_init cJ2_init 1 none) (zRm 3 0 0) (va_Pc [.ref al] (zPre B0 D A [[(al, .inr (16, [.int 0, .null, .int 0]))]])) (zQ (S := Unit) (fun _ => True) (fun _ => none) (fun _ => [[(al, .inr (16, [.int 0, .ref (zEE D), .int (nI 0)]))]]) D A) 0 0 A := by
  refine z_entry (by decide +kernel) (Nat.le_of_ble_eq_true rfl) (fun pX eX sX mX argsX blX mtX cX QX hQX gX hAX hnm => ?_)
  refine z_eq (lv₂ := [(0, .ref al)]) (st₂ := []) ?_ rfl rfl
  refine z_aload_n (pc := 0) gX 0 dJ2_init_0 rfl rfl ?_
  refine z_cMI (pc := 1) gX hAX [] [] [0] [] (fun A1 => met_J1_init l D B0 A1 al ) q122 q123 q51 q124 rfl hd_J1_init ⟨rfl, rfl⟩ ⟨(Nat.le_of_ble_eq_true rfl), (Nat.le_of_ble_eq_true rfl)⟩ rfl rfl rfl rfl rfl (Nat.le_of_ble_eq_true rfl) ⟨(Nat.le_of_ble_eq_true rfl), (Nat.le_of_ble_eq_true rfl)⟩ dJ2_init_1 ?_
  intro _ hu1
  refine z_re [0] [[(al, .inr (16, [.int 0, .null, .int 0]))]] rfl rfl ?_
  refine z_eq (lv₂ := [(0, .ref al)]) (st₂ := []) ?_ rfl rfl
  refine z_aload_n (pc := 4) gX 0 dJ2_init_4 rfl rfl ?_
  refine z_getEE (pc := 5) gX (zI_ok gX hAX) q129 dJ2_init_5 ?_
  refine z_put (pc := 8) gX hAX 0 rfl (ci := 16) (C := RJ2) (T := TJ2) (N := 3) rfl in_J2 tyJ2 tyJ2_ok nmJ2 1 (by decide) q131 (fun _ h => h) rfl (v := .ref (zEE D)) rfl rfl (Nat.le_of_ble_eq_true rfl) [[(al, .inr (16, [.int 0, .ref (zEE D), .int 0]))]] rfl dJ2_init_8 ?_
  exact z_vret gX hQX () trivial rfl rfl (by first | decide | omega) (by first | decide | omega) dJ2_init_11
theorem hd_J2_init : zHd yJ2_init 0 := by unfold zHd; decide +kernel

set_option maxHeartbeats 4000000 in
theorem met_J2_size (l : Launch) (D : va_G) (B0 : Nat) (al : Nat) (md : Int32) (x : Nat) (n : Nat)  : Met l yJ2_size (ws_ yJ2_size cJ2_size 1 (some .int)) (zRm 1 0 0) (va_Pc [.ref al] (zPreO B0 D [[(al, .inr (16, [.int md, .ref x, .int (nI n)]))]])) (zQo (S := Unit) (fun _ => True) (fun _ => some (.int (nI n)))) 0 0 (fun _ => False) := by
  refine z_entryo (by decide +kernel) (Nat.le_of_ble_eq_true rfl) (fun pX eX sX mX argsX blX mtX cX QX hQX gX => ?_)
  refine z_eq (lv₂ := [(0, .ref al)]) (st₂ := []) ?_ rfl rfl
  refine z_aload_n (pc := 0) gX 0 dJ2_size_0 rfl rfl ?_
  refine z_get (pc := 1) gX (zIo_ok gX) (zm 0 rfl) (ci := 16) (C := RJ2) (T := TJ2) (N := 3) rfl in_J2 2 (by decide) q132 (fun _ h => h) (v := .int (nI n)) rfl dJ2_size_1 ?_
  exact z_rio gX hQX rfl dJ2_size_4
theorem hd_J2_size : zHd yJ2_size 0 := by unfold zHd; decide +kernel

set_option maxHeartbeats 4000000 in
theorem met_J15_checkIndex (l : Launch) (D : va_G) (B0 : Nat) (i : Nat) (n : Nat) (hi : i < n) (hn : n < 2147483648) : Met l yJ15_checkIndex (ws_ yJ15_checkIndex cJ15_checkIndex 3 (some .int)) (zRm 1 0 0) (va_Pc [.int (nI i), .int (nI n), .null] (zPreO B0 D [])) (zQo (S := Unit) (fun _ => True) (fun _ => some (.int (nI i)))) 0 0 (fun _ => False) := by
  refine z_entryo (by decide +kernel) (Nat.le_of_ble_eq_true rfl) (fun pX eX sX mX argsX blX mtX cX QX hQX gX => ?_)
  refine z_eq (lv₂ := [(0, .int (nI i)), (1, .int (nI n)), (2, .null)]) (st₂ := []) ?_ rfl rfl
  refine z_iload_n (pc := 0) gX 0 dJ15_checkIndex_0 rfl rfl ?_
  refine z_if_lt (pc := 1) gX 9 dJ15_checkIndex_1 (by decide) (fun c1 => ?_) (fun c1 => ?_)
  · skip
    exact absurd c1 (nI_pos (by omega))
  · skip
    refine z_iload_n (pc := 4) gX 0 dJ15_checkIndex_4 rfl rfl ?_
    refine z_iload_n (pc := 5) gX 1 dJ15_checkIndex_5 rfl rfl ?_
    refine z_icmp_lt (pc := 6) gX 16 dJ15_checkIndex_6 (by decide) (fun c6 => ?_) (fun c6 => ?_)
    · skip
      have k6 : i < n := (zn_lt (a := i) (b := n) (by omega) (by omega)).mp c6
      refine z_iload_n (pc := 16) gX 0 dJ15_checkIndex_16 rfl rfl ?_
      exact z_rio gX hQX rfl dJ15_checkIndex_17
    · skip
      have k6 : n ≤ i := (zn_nlt (a := i) (b := n) (by omega) (by omega)).mp c6
      omega
theorem hd_J15_checkIndex : zHd yJ15_checkIndex 3 := by unfold zHd; decide +kernel

set_option maxHeartbeats 4000000 in
theorem met_J19_checkIndex (l : Launch) (D : va_G) (B0 : Nat) (i : Nat) (n : Nat) (hi : i < n) (hn : n < 2147483648) : Met l yJ19_checkIndex (ws_ yJ19_checkIndex cJ19_checkIndex 2 (some .int)) (zRm 2 0 0) (va_Pc [.int (nI i), .int (nI n)] (zPreO B0 D [])) (zQo (S := Unit) (fun _ => True) (fun _ => some (.int (nI i)))) 0 0 (fun _ => False) := by
  refine z_entryo (by decide +kernel) (Nat.le_of_ble_eq_true rfl) (fun pX eX sX mX argsX blX mtX cX QX hQX gX => ?_)
  refine z_eq (lv₂ := [(0, .int (nI i)), (1, .int (nI n))]) (st₂ := []) ?_ rfl rfl
  refine z_iload_n (pc := 0) gX 0 dJ19_checkIndex_0 rfl rfl ?_
  refine z_iload_n (pc := 1) gX 1 dJ19_checkIndex_1 rfl rfl ?_
  refine z_aconst_null (pc := 2) gX dJ19_checkIndex_2 ?_
  refine z_cOS (pc := 3) gX (zIo_ok gX) [.int (nI i), .int (nI n), .null] [] [] (met_J15_checkIndex l D B0 i n (by first | assumption | omega) (by first | assumption | omega)) q810 q811 q70 q812 hd_J15_checkIndex ⟨rfl, rfl⟩ ⟨(Nat.le_of_ble_eq_true rfl), (Nat.le_of_ble_eq_true rfl)⟩ rfl rfl rfl (Nat.le_of_ble_eq_true rfl) ⟨(Nat.le_of_ble_eq_true rfl), (Nat.le_of_ble_eq_true rfl)⟩ dJ19_checkIndex_3 ?_
  intro _ hu3
  refine z_eq (lv₂ := [(0, .int (nI i)), (1, .int (nI n))]) (st₂ := [.int (nI i)]) ?_ rfl rfl
  exact z_rio gX hQX rfl dJ19_checkIndex_6
theorem hd_J19_checkIndex : zHd yJ19_checkIndex 2 := by unfold zHd; decide +kernel

set_option maxHeartbeats 4000000 in
theorem met_J2_elementData (l : Launch) (D : va_G) (B0 : Nat) (al : Nat) (md : Int32) (x : Nat) (n : Nat) (f : Nat → Option Nat) (i : Nat) (v : Nat) (hi : i < 10) (hv : f i = some v) : Met l yJ2_elementData (ws_ yJ2_elementData cJ2_elementData 2 (some (.object "java/lang/Object"))) (zRm 1 0 0) (va_Pc [.ref al, .int (nI i)] (zPreO B0 D [[(al, .inr (16, [.int md, .ref x, .int (nI n)]))], [(x, .inl (D.1 104, 10, .inr (.inr (.inr (.inr f)))))]])) (zQo (S := Unit) (fun _ => True) (fun _ => some (.ref v))) 0 0 (fun _ => False) := by
  refine z_entryo (by decide +kernel) (Nat.le_of_ble_eq_true rfl) (fun pX eX sX mX argsX blX mtX cX QX hQX gX => ?_)
  refine z_eq (lv₂ := [(0, .ref al), (1, .int (nI i))]) (st₂ := []) ?_ rfl rfl
  refine z_aload_n (pc := 0) gX 0 dJ2_elementData_0 rfl rfl ?_
  refine z_get (pc := 1) gX (zIo_ok gX) (zm 0 rfl) (ci := 16) (C := RJ2) (T := TJ2) (N := 3) rfl in_J2 1 (by decide) q131 (fun _ h => h) (v := .ref x) rfl dJ2_elementData_1 ?_
  refine z_iload_n (pc := 4) gX 1 dJ2_elementData_4 rfl rfl ?_
  refine z_ald (pc := 5) gX (zIo_ok gX) (j := i) (n := 10) (f := f) (zm 1 rfl) 4 rfl (by omega) (by decide) v hv dJ2_elementData_5 ?_
  exact z_areto gX hQX (by first | exact Or.inl ⟨_, rfl⟩ | exact Or.inr ⟨_, rfl⟩) (Or.inr ⟨_, rfl⟩) () trivial rfl dJ2_elementData_6
theorem hd_J2_elementData : zHd yJ2_elementData 1 := by unfold zHd; decide +kernel

set_option maxHeartbeats 4000000 in
theorem met_J2_get (l : Launch) (D : va_G) (B0 : Nat) (al : Nat) (md : Int32) (x : Nat) (n : Nat) (f : Nat → Option Nat) (i : Nat) (v : Nat) (hi : i < n) (hn : n ≤ 10) (hv : f i = some v) : Met l yJ2_get (ws_ yJ2_get cJ2_get 2 (some (.object "java/lang/Object"))) (zRm 3 0 0) (va_Pc [.ref al, .int (nI i)] (zPreO B0 D [[(al, .inr (16, [.int md, .ref x, .int (nI n)]))], [(x, .inl (D.1 104, 10, .inr (.inr (.inr (.inr f)))))]])) (zQo (S := Unit) (fun _ => True) (fun _ => some (.ref v))) 0 0 (fun _ => False) := by
  refine z_entryo (by decide +kernel) (Nat.le_of_ble_eq_true rfl) (fun pX eX sX mX argsX blX mtX cX QX hQX gX => ?_)
  refine z_eq (lv₂ := [(0, .ref al), (1, .int (nI i))]) (st₂ := []) ?_ rfl rfl
  refine z_iload_n (pc := 0) gX 1 dJ2_get_0 rfl rfl ?_
  refine z_aload_n (pc := 1) gX 0 dJ2_get_1 rfl rfl ?_
  refine z_get (pc := 2) gX (zIo_ok gX) (zm 0 rfl) (ci := 16) (C := RJ2) (T := TJ2) (N := 3) rfl in_J2 2 (by decide) q132 (fun _ h => h) (v := .int (nI n)) rfl dJ2_get_2 ?_
  refine z_cOS (pc := 5) gX (zIo_ok gX) [.int (nI i), .int (nI n)] [] [] (met_J19_checkIndex l D B0 i n (by first | assumption | omega) (by first | assumption | omega)) q807 q808 q80 q809 hd_J19_checkIndex ⟨rfl, rfl⟩ ⟨(Nat.le_of_ble_eq_true rfl), (Nat.le_of_ble_eq_true rfl)⟩ rfl rfl rfl (Nat.le_of_ble_eq_true rfl) ⟨(Nat.le_of_ble_eq_true rfl), (Nat.le_of_ble_eq_true rfl)⟩ dJ2_get_5 ?_
  intro _ hu5
  refine z_eq (lv₂ := [(0, .ref al), (1, .int (nI i))]) (st₂ := [.int (nI i)]) ?_ rfl rfl
  refine z_pop (pc := 8) gX dJ2_get_8 rfl ?_
  refine z_aload_n (pc := 9) gX 0 dJ2_get_9 rfl rfl ?_
  refine z_iload_n (pc := 10) gX 1 dJ2_get_10 rfl rfl ?_
  refine z_cOV (pc := 11) gX (zIo_ok gX) [.int (nI i)] [] [0, 1] (met_J2_elementData l D B0 al md x n f i v (by first | assumption | omega) (by first | assumption | omega)) q813 q814 q815 q52 q816 (zm 0 rfl) (ci := 16) rfl rfl hd_J2_elementData ⟨rfl, rfl⟩ ⟨(Nat.le_of_ble_eq_true rfl), (Nat.le_of_ble_eq_true rfl)⟩ rfl rfl rfl (Nat.le_of_ble_eq_true rfl) ⟨(Nat.le_of_ble_eq_true rfl), (Nat.le_of_ble_eq_true rfl)⟩ dJ2_get_11 ?_
  intro _ hu11
  refine z_eq (lv₂ := [(0, .ref al), (1, .int (nI i))]) (st₂ := [.ref v]) ?_ rfl rfl
  exact z_areto gX hQX (by first | exact Or.inl ⟨_, rfl⟩ | exact Or.inr ⟨_, rfl⟩) (Or.inr ⟨_, rfl⟩) () trivial rfl dJ2_get_14
theorem hd_J2_get : zHd yJ2_get 1 := by unfold zHd; decide +kernel

set_option maxHeartbeats 4000000 in
theorem met_J2_grow_2 (l : Launch) (D : va_G) (B0 : Nat) (A : Nat → Prop) (al : Nat) (md : Int32) (n : Nat) (k : Nat) (hk : k ≤ 10) : Met l yJ2_grow_2 (ws_ yJ2_grow_2 cJ2_grow_2 4 (some (.array (.object "java/lang/Object")))) (zRm 2 1 10) (va_Pc [.ref al, .int (nI k)] (zPre B0 D A [[(al, .inr (16, [.int md, .ref (zEE D), .int (nI n)]))]])) (zQ (S := Nat) (fun u => (fun (q : Nat) => True) u) (fun u => (fun (q : Nat) => some (.ref q)) u) (fun u => (fun (q : Nat) => [[(al, .inr (16, [.int md, .ref q, .int (nI n)]))], [(q, .inl (D.1 104, 10, .inr (.inr (.inr (.inr (fun _ => none))))))]]) u) D A) 1 10 A := by
  refine z_entry (by decide +kernel) (Nat.le_of_ble_eq_true rfl) (fun pX eX sX mX argsX blX mtX cX QX hQX gX hAX hnm => ?_)
  refine z_eq (lv₂ := [(0, .ref al), (1, .int (nI k))]) (st₂ := []) ?_ rfl rfl
  refine z_aload_n (pc := 0) gX 0 dJ2_grow_2_0 rfl rfl ?_
  refine z_get (pc := 1) gX (zI_ok gX hAX) (zm 0 rfl) (ci := 16) (C := RJ2) (T := TJ2) (N := 3) rfl in_J2 1 (by decide) q131 (fun _ h => h) (v := .ref (zEE D)) rfl dJ2_grow_2_1 ?_
  refine z_lenEE (pc := 4) gX (zI_ok gX hAX) dJ2_grow_2_4 ?_
  refine z_istore_n (pc := 5) gX [1, 2, 0] [(0, .ref al), (1, .int (nI k)), (2, .int 0)] dJ2_grow_2_5 rfl (by decide) rfl ?_
  refine z_iload_n (pc := 6) gX 2 dJ2_grow_2_6 rfl rfl ?_
  refine z_if_gt (pc := 7) gX 20 dJ2_grow_2_7 (by decide) (fun c7 => ?_) (fun c7 => ?_)
  · skip
    exact absurd c7 (by decide)
  · skip
    refine z_aload_n (pc := 10) gX 0 dJ2_grow_2_10 rfl rfl ?_
    refine z_get (pc := 11) gX (zI_ok gX hAX) (zm 0 rfl) (ci := 16) (C := RJ2) (T := TJ2) (N := 3) rfl in_J2 1 (by decide) q131 (fun _ h => h) (v := .ref (zEE D)) rfl dJ2_grow_2_11 ?_
    refine z_getEE (pc := 14) gX (zI_ok gX hAX) q129 dJ2_grow_2_14 ?_
    refine z_acmp_eq (pc := 17) gX 45 dJ2_grow_2_17 (by decide) (fun c17 => ?_) (fun c17 => ?_)
    · skip
      refine z_aload_n (pc := 45) gX 0 dJ2_grow_2_45 rfl rfl ?_
      refine z_bipush (pc := 46) gX 10 dJ2_grow_2_46 (by decide) ?_
      refine z_iload_n (pc := 48) gX 1 dJ2_grow_2_48 rfl rfl ?_
      refine z_mmax (pc := 49) gX ⟨q781, q591, q68, q592⟩ (Nat.le_of_ble_eq_true rfl) (Nat.le_of_ble_eq_true rfl) ⟨by first | decide | omega, by first | decide | omega⟩ dJ2_grow_2_49 ?_
      refine z_top (nI 10) (if_neg (show ¬ nI 10 < nI k from nI_nlt (by omega) (by omega))) ?_
      refine z_newq (pc := 52) gX hAX 4 rfl q782 q777 (by decide) (by decide) (by decide) (by decide) dJ2_grow_2_52 (fun q52 => ?_)
      refine z_norm [[(al, .inr (16, [.int md, .ref (zEE D), .int (nI n)]))], [(q52, .inl (D.1 104, 10, .inr (.inr (.inr (.inr (fun _ => none))))))]] 1 10 ?_ rfl rfl rfl
      refine z_dup_x1 (pc := 55) gX dJ2_grow_2_55 rfl rfl ?_
      refine z_put (pc := 56) gX hAX 0 rfl (ci := 16) (C := RJ2) (T := TJ2) (N := 3) rfl in_J2 tyJ2 tyJ2_ok nmJ2 1 (by decide) q131 (fun _ h => h) rfl (v := .ref q52) rfl rfl (Nat.le_of_ble_eq_true rfl) [[(al, .inr (16, [.int md, .ref q52, .int (nI n)]))], [(q52, .inl (D.1 104, 10, .inr (.inr (.inr (.inr (fun _ => none))))))]] rfl dJ2_grow_2_56 ?_
      exact z_aret gX hQX (by first | exact Or.inl ⟨_, rfl⟩ | exact Or.inr ⟨_, rfl⟩) (Or.inr ⟨_, rfl⟩) q52 trivial rfl rfl (by first | decide | omega) (by first | decide | omega) dJ2_grow_2_59
    · skip
      exact absurd rfl c17
theorem hd_J2_grow_2 : zHd yJ2_grow_2 1 := by unfold zHd; decide +kernel

set_option maxHeartbeats 4000000 in
theorem met_J2_grow (l : Launch) (D : va_G) (B0 : Nat) (A : Nat → Prop) (al : Nat) (md : Int32) (n : Nat) (hn : n < 10) : Met l yJ2_grow (ws_ yJ2_grow cJ2_grow 1 (some (.array (.object "java/lang/Object")))) (zRm 3 1 10) (va_Pc [.ref al] (zPre B0 D A [[(al, .inr (16, [.int md, .ref (zEE D), .int (nI n)]))]])) (zQ (S := Nat) (fun u => (fun (q : Nat) => True) u) (fun u => (fun (q : Nat) => some (.ref q)) u) (fun u => (fun (q : Nat) => [[(al, .inr (16, [.int md, .ref q, .int (nI n)]))], [(q, .inl (D.1 104, 10, .inr (.inr (.inr (.inr (fun _ => none))))))]]) u) D A) 1 10 A := by
  refine z_entry (by decide +kernel) (Nat.le_of_ble_eq_true rfl) (fun pX eX sX mX argsX blX mtX cX QX hQX gX hAX hnm => ?_)
  refine z_eq (lv₂ := [(0, .ref al)]) (st₂ := []) ?_ rfl rfl
  refine z_aload_n (pc := 0) gX 0 dJ2_grow_0 rfl rfl ?_
  refine z_aload_n (pc := 1) gX 0 dJ2_grow_1 rfl rfl ?_
  refine z_get (pc := 2) gX (zI_ok gX hAX) (zm 0 rfl) (ci := 16) (C := RJ2) (T := TJ2) (N := 3) rfl in_J2 2 (by decide) q132 (fun _ h => h) (v := .int (nI n)) rfl dJ2_grow_2 ?_
  refine z_iconst (pc := 5) gX 1 dJ2_grow_5 (by decide) ?_
  refine z_iadd (pc := 6) gX dJ2_grow_6 ?_
  refine z_top (nI (n + 1)) (nI_add n 1) ?_
  refine z_cMV (pc := 7) gX hAX [.int (nI (n + 1))] [] [0] [] (fun A1 => met_J2_grow_2 l D B0 A1 al md n (n + 1) (by first | assumption | omega)) q731 q733 qs17 q52 q734 (zm 0 rfl) (ci := 16) rfl rfl hd_J2_grow_2 ⟨rfl, rfl⟩ ⟨(Nat.le_of_ble_eq_true rfl), (Nat.le_of_ble_eq_true rfl)⟩ rfl rfl rfl rfl rfl (Nat.le_of_ble_eq_true rfl) ⟨(Nat.le_of_ble_eq_true rfl), (Nat.le_of_ble_eq_true rfl)⟩ dJ2_grow_7 ?_
  intro u7 hu7
  obtain ⟨q_7, rfl⟩ : ∃ z, z = u7 := ⟨_, rfl⟩
  refine z_re [0, 1] [[(al, .inr (16, [.int md, .ref q_7, .int (nI n)]))], [(q_7, .inl (D.1 104, 10, .inr (.inr (.inr (.inr (fun _ => none))))))]] rfl rfl ?_
  refine z_norm [[(al, .inr (16, [.int md, .ref q_7, .int (nI n)]))], [(q_7, .inl (D.1 104, 10, .inr (.inr (.inr (.inr (fun _ => none))))))]] 1 10 ?_ rfl rfl rfl
  refine z_eq (lv₂ := [(0, .ref al)]) (st₂ := [.ref q_7]) ?_ rfl rfl
  exact z_aret gX hQX (by first | exact Or.inl ⟨_, rfl⟩ | exact Or.inr ⟨_, rfl⟩) (Or.inr ⟨_, rfl⟩) q_7 trivial rfl rfl (by first | decide | omega) (by first | decide | omega) dJ2_grow_10
theorem hd_J2_grow : zHd yJ2_grow 0 := by unfold zHd; decide +kernel

set_option maxHeartbeats 4000000 in
theorem met_J2_add_2g (l : Launch) (D : va_G) (B0 : Nat) (A : Nat → Prop) (al : Nat) (md : Int32) (d : Nat) (n : Nat) (f : Nat → Option Nat) (T : va_W) (v : Nat) (ci : Nat) (vs : List Value) (r : vw_C) (hn : n < 10) (hv : (v, .inr (ci, vs)) ∈ T) (hc : vwCl[ci]? = some r) : Met l yJ2_add_2 (ws_ yJ2_add_2 cJ2_add_2 4 none) (zRm 4 0 0) (va_Pc [.ref al, .ref v, .ref d, .int (nI n)] (zPre B0 D A [[(al, .inr (16, [.int md, .ref d, .int (nI n)]))], [(d, .inl (D.1 104, 10, .inr (.inr (.inr (.inr f)))))], T])) (zQ (S := Unit) (fun _ => True) (fun _ => none) (fun _ => [[(al, .inr (16, [.int md, .ref d, .int (nI (n + 1))]))], [(d, .inl (D.1 104, 10, .inr (.inr (.inr (.inr (va_up f n (some v)))))))], T]) D A) 0 0 A := by
  refine z_entry (by decide +kernel) (Nat.le_of_ble_eq_true rfl) (fun pX eX sX mX argsX blX mtX cX QX hQX gX hAX hnm => ?_)
  refine z_eq (lv₂ := [(0, .ref al), (1, .ref v), (2, .ref d), (3, .int (nI n))]) (st₂ := []) ?_ rfl rfl
  refine z_iload_n (pc := 0) gX 3 dJ2_add_2_0 rfl rfl ?_
  refine z_aload_n (pc := 1) gX 2 dJ2_add_2_1 rfl rfl ?_
  refine z_alen (pc := 2) gX (zI_ok gX hAX) (zm 1 rfl) 4 rfl dJ2_add_2_2 ?_
  refine z_icmp_ne (pc := 3) gX 11 dJ2_add_2_3 (by decide) (fun c3 => ?_) (fun c3 => ?_)
  · skip
    have k3 : ¬ n = 10 := fun h => c3 ((zn_eq (a := n) (b := 10) (by omega) (by omega)).mpr h)
    refine z_aload_n (pc := 11) gX 2 dJ2_add_2_11 rfl rfl ?_
    refine z_iload_n (pc := 12) gX 3 dJ2_add_2_12 rfl rfl ?_
    refine z_aload_n (pc := 13) gX 1 dJ2_add_2_13 rfl rfl ?_
    refine z_ast (pc := 14) gX hAX 1 (j := n) (n := 10) (f := f) rfl 4 rfl (by omega) (by decide) (zpm 2 rfl hv) hc (zObjA gX hc) [[(al, .inr (16, [.int md, .ref d, .int (nI n)]))], [(d, .inl (D.1 104, 10, .inr (.inr (.inr (.inr (va_up f n (some v)))))))], T] rfl dJ2_add_2_14 ?_
    refine z_aload_n (pc := 15) gX 0 dJ2_add_2_15 rfl rfl ?_
    refine z_iload_n (pc := 16) gX 3 dJ2_add_2_16 rfl rfl ?_
    refine z_iconst (pc := 17) gX 1 dJ2_add_2_17 (by decide) ?_
    refine z_iadd (pc := 18) gX dJ2_add_2_18 ?_
    refine z_top (nI (n + 1)) (nI_add n 1) ?_
    refine z_put (pc := 19) gX hAX 0 rfl (ci := 16) (C := RJ2) (T := TJ2) (N := 3) rfl in_J2 tyJ2 tyJ2_ok nmJ2 2 (by decide) q132 (fun _ h => h) rfl (v := .int (nI (n + 1))) rfl rfl (Nat.le_of_ble_eq_true rfl) [[(al, .inr (16, [.int md, .ref d, .int (nI (n + 1))]))], [(d, .inl (D.1 104, 10, .inr (.inr (.inr (.inr (va_up f n (some v)))))))], T] rfl dJ2_add_2_19 ?_
    exact z_vret gX hQX () trivial rfl rfl (by first | decide | omega) (by first | decide | omega) dJ2_add_2_22
  · skip
    have k3 : n = 10 := (zn_eq (a := n) (b := 10) (by omega) (by omega)).mp c3
    omega
theorem hd_J2_add_2 : zHd yJ2_add_2 3 := by unfold zHd; decide +kernel

set_option maxHeartbeats 4000000 in
theorem met_J2_add_2f (l : Launch) (D : va_G) (B0 : Nat) (A : Nat → Prop) (al : Nat) (md : Int32) (T : va_W) (v : Nat) (ci : Nat) (vs : List Value) (r : vw_C) (hv : (v, .inr (ci, vs)) ∈ T) (hc : vwCl[ci]? = some r) : Met l yJ2_add_2 (ws_ yJ2_add_2 cJ2_add_2 4 none) (zRm 4 1 10) (va_Pc [.ref al, .ref v, .ref (zEE D), .int (nI 0)] (zPre B0 D A [[(al, .inr (16, [.int md, .ref (zEE D), .int (nI 0)]))], T])) (zQ (S := Nat) (fun u => (fun (q : Nat) => True) u) (fun u => (fun (q : Nat) => none) u) (fun u => (fun (q : Nat) => [[(al, .inr (16, [.int md, .ref q, .int (nI 1)]))], [(q, .inl (D.1 104, 10, .inr (.inr (.inr (.inr (va_up (fun _ => none) 0 (some v)))))))], T]) u) D A) 1 10 A := by
  refine z_entry (by decide +kernel) (Nat.le_of_ble_eq_true rfl) (fun pX eX sX mX argsX blX mtX cX QX hQX gX hAX hnm => ?_)
  refine z_eq (lv₂ := [(0, .ref al), (1, .ref v), (2, .ref (zEE D)), (3, .int (nI 0))]) (st₂ := []) ?_ rfl rfl
  refine z_iload_n (pc := 0) gX 3 dJ2_add_2_0 rfl rfl ?_
  refine z_aload_n (pc := 1) gX 2 dJ2_add_2_1 rfl rfl ?_
  refine z_lenEE (pc := 2) gX (zI_ok gX hAX) dJ2_add_2_2 ?_
  refine z_icmp_ne (pc := 3) gX 11 dJ2_add_2_3 (by decide) (fun c3 => ?_) (fun c3 => ?_)
  · skip
    have k3 : ¬ 0 = 0 := fun h => c3 ((zn_eq (a := 0) (b := 0) (by omega) (by omega)).mpr h)
    exact absurd rfl c3
  · skip
    have k3 : 0 = 0 := (zn_eq (a := 0) (b := 0) (by omega) (by omega)).mp c3
    refine z_aload_n (pc := 6) gX 0 dJ2_add_2_6 rfl rfl ?_
    refine z_cMV (pc := 7) gX hAX [] [] [0] [1] (fun A1 => met_J2_grow l D B0 A1 al md 0 (by first | assumption | omega)) q727 q729 qs16 q52 q730 (zm 0 rfl) (ci := 16) rfl rfl hd_J2_grow ⟨rfl, rfl⟩ ⟨(Nat.le_of_ble_eq_true rfl), (Nat.le_of_ble_eq_true rfl)⟩ rfl rfl rfl rfl rfl (Nat.le_of_ble_eq_true rfl) ⟨(Nat.le_of_ble_eq_true rfl), (Nat.le_of_ble_eq_true rfl)⟩ dJ2_add_2_7 ?_
    intro u7 hu7
    obtain ⟨q_7, rfl⟩ : ∃ z, z = u7 := ⟨_, rfl⟩
    refine z_re [0, 1, 2] [[(al, .inr (16, [.int md, .ref q_7, .int (nI 0)]))], [(q_7, .inl (D.1 104, 10, .inr (.inr (.inr (.inr (fun _ => none))))))], T] rfl rfl ?_
    refine z_norm [[(al, .inr (16, [.int md, .ref q_7, .int (nI 0)]))], [(q_7, .inl (D.1 104, 10, .inr (.inr (.inr (.inr (fun _ => none))))))], T] 1 10 ?_ rfl rfl rfl
    refine z_eq (lv₂ := [(0, .ref al), (1, .ref v), (2, .ref (zEE D)), (3, .int (nI 0))]) (st₂ := [.ref q_7]) ?_ rfl rfl
    refine z_astore_n (pc := 10) gX [1, 2, 0, 3] [(0, .ref al), (1, .ref v), (2, .ref q_7), (3, .int (nI 0))] dJ2_add_2_10 rfl (by decide) rfl ?_
    refine z_aload_n (pc := 11) gX 2 dJ2_add_2_11 rfl rfl ?_
    refine z_iload_n (pc := 12) gX 3 dJ2_add_2_12 rfl rfl ?_
    refine z_aload_n (pc := 13) gX 1 dJ2_add_2_13 rfl rfl ?_
    refine z_ast (pc := 14) gX hAX 1 (j := 0) (n := 10) (f := (fun _ => none)) rfl 4 rfl (by omega) (by decide) (zpm 2 rfl hv) hc (zObjA gX hc) [[(al, .inr (16, [.int md, .ref q_7, .int (nI 0)]))], [(q_7, .inl (D.1 104, 10, .inr (.inr (.inr (.inr (va_up (fun _ => none) 0 (some v)))))))], T] rfl dJ2_add_2_14 ?_
    refine z_aload_n (pc := 15) gX 0 dJ2_add_2_15 rfl rfl ?_
    refine z_iload_n (pc := 16) gX 3 dJ2_add_2_16 rfl rfl ?_
    refine z_iconst (pc := 17) gX 1 dJ2_add_2_17 (by decide) ?_
    refine z_iadd (pc := 18) gX dJ2_add_2_18 ?_
    refine z_top (nI 1) (nI_add 0 1) ?_
    refine z_put (pc := 19) gX hAX 0 rfl (ci := 16) (C := RJ2) (T := TJ2) (N := 3) rfl in_J2 tyJ2 tyJ2_ok nmJ2 2 (by decide) q132 (fun _ h => h) rfl (v := .int (nI 1)) rfl rfl (Nat.le_of_ble_eq_true rfl) [[(al, .inr (16, [.int md, .ref q_7, .int (nI 1)]))], [(q_7, .inl (D.1 104, 10, .inr (.inr (.inr (.inr (va_up (fun _ => none) 0 (some v)))))))], T] rfl dJ2_add_2_19 ?_
    exact z_vret gX hQX q_7 trivial rfl rfl (by first | decide | omega) (by first | decide | omega) dJ2_add_2_22

set_option maxHeartbeats 4000000 in
theorem met_J2_addg (l : Launch) (D : va_G) (B0 : Nat) (A : Nat → Prop) (al : Nat) (md : Int32) (d : Nat) (n : Nat) (f : Nat → Option Nat) (T : va_W) (v : Nat) (ci : Nat) (vs : List Value) (r : vw_C) (hn : n < 10) (hv : (v, .inr (ci, vs)) ∈ T) (hc : vwCl[ci]? = some r) : Met l yJ2_add (ws_ yJ2_add cJ2_add 2 (some .boolean)) (zRm 5 0 0) (va_Pc [.ref al, .ref v] (zPre B0 D A [[(al, .inr (16, [.int md, .ref d, .int (nI n)]))], [(d, .inl (D.1 104, 10, .inr (.inr (.inr (.inr f)))))], T])) (zQ (S := Unit) (fun _ => True) (fun _ => some (.int (bI true))) (fun _ => [[(al, .inr (16, [.int (md + 1), .ref d, .int (nI (n + 1))]))], [(d, .inl (D.1 104, 10, .inr (.inr (.inr (.inr (va_up f n (some v)))))))], T]) D A) 0 0 A := by
  refine z_entry (by decide +kernel) (Nat.le_of_ble_eq_true rfl) (fun pX eX sX mX argsX blX mtX cX QX hQX gX hAX hnm => ?_)
  refine z_eq (lv₂ := [(0, .ref al), (1, .ref v)]) (st₂ := []) ?_ rfl rfl
  refine z_aload_n (pc := 0) gX 0 dJ2_add_0 rfl rfl ?_
  refine z_dup (pc := 1) gX dJ2_add_1 rfl ?_
  refine z_get (pc := 2) gX (zI_ok gX hAX) (zm 0 rfl) (ci := 16) (C := RJ2) (T := TJ2) (N := 3) rfl in_J2 0 (by decide) q134 (u_same (gX.ts _ q135)) (v := .int md) rfl dJ2_add_2 ?_
  refine z_iconst (pc := 5) gX 1 dJ2_add_5 (by decide) ?_
  refine z_iadd (pc := 6) gX dJ2_add_6 ?_
  refine z_put (pc := 7) gX hAX 0 rfl (ci := 16) (C := RJ2) (T := TJ2) (N := 3) rfl in_J2 tyJ2 tyJ2_ok nmJ2 0 (by decide) q134 (u_same (gX.ts _ q135)) rfl (v := .int (md + 1)) rfl rfl (Nat.le_of_ble_eq_true rfl) [[(al, .inr (16, [.int (md + 1), .ref d, .int (nI n)]))], [(d, .inl (D.1 104, 10, .inr (.inr (.inr (.inr f)))))], T] rfl dJ2_add_7 ?_
  refine z_aload_n (pc := 10) gX 0 dJ2_add_10 rfl rfl ?_
  refine z_aload_n (pc := 11) gX 1 dJ2_add_11 rfl rfl ?_
  refine z_aload_n (pc := 12) gX 0 dJ2_add_12 rfl rfl ?_
  refine z_get (pc := 13) gX (zI_ok gX hAX) (zm 0 rfl) (ci := 16) (C := RJ2) (T := TJ2) (N := 3) rfl in_J2 1 (by decide) q131 (fun _ h => h) (v := .ref d) rfl dJ2_add_13 ?_
  refine z_aload_n (pc := 16) gX 0 dJ2_add_16 rfl rfl ?_
  refine z_get (pc := 17) gX (zI_ok gX hAX) (zm 0 rfl) (ci := 16) (C := RJ2) (T := TJ2) (N := 3) rfl in_J2 2 (by decide) q132 (fun _ h => h) (v := .int (nI n)) rfl dJ2_add_17 ?_
  refine z_cMV (pc := 20) gX hAX [.ref v, .ref d, .int (nI n)] [] [0, 1, 2] [] (fun A1 => met_J2_add_2g l D B0 A1 al (md + 1) d n f T v ci vs r (by first | assumption | omega) (by first | assumption | omega) (by first | assumption | omega)) q723 q725 qs15 q52 q726 (zm 0 rfl) (ci := 16) rfl rfl hd_J2_add_2 ⟨rfl, rfl⟩ ⟨(Nat.le_of_ble_eq_true rfl), (Nat.le_of_ble_eq_true rfl)⟩ rfl rfl rfl rfl rfl (Nat.le_of_ble_eq_true rfl) ⟨(Nat.le_of_ble_eq_true rfl), (Nat.le_of_ble_eq_true rfl)⟩ dJ2_add_20 ?_
  intro _ hu20
  refine z_re [0, 1, 2] [[(al, .inr (16, [.int (md + 1), .ref d, .int (nI (n + 1))]))], [(d, .inl (D.1 104, 10, .inr (.inr (.inr (.inr (va_up f n (some v)))))))], T] rfl rfl ?_
  refine z_eq (lv₂ := [(0, .ref al), (1, .ref v)]) (st₂ := []) ?_ rfl rfl
  refine z_iconst (pc := 23) gX 1 dJ2_add_23 (by decide) ?_
  exact z_rzm gX hQX () trivial (zbv rfl) rfl (by first | decide | omega) (by first | decide | omega) dJ2_add_24
theorem hd_J2_add : zHd yJ2_add 1 := by unfold zHd; decide +kernel

set_option maxHeartbeats 4000000 in
theorem met_J2_addf (l : Launch) (D : va_G) (B0 : Nat) (A : Nat → Prop) (al : Nat) (md : Int32) (T : va_W) (v : Nat) (ci : Nat) (vs : List Value) (r : vw_C) (hv : (v, .inr (ci, vs)) ∈ T) (hc : vwCl[ci]? = some r) : Met l yJ2_add (ws_ yJ2_add cJ2_add 2 (some .boolean)) (zRm 5 1 10) (va_Pc [.ref al, .ref v] (zPre B0 D A [[(al, .inr (16, [.int md, .ref (zEE D), .int (nI 0)]))], T])) (zQ (S := Nat) (fun u => (fun (q : Nat) => True) u) (fun u => (fun (q : Nat) => some (.int (bI true))) u) (fun u => (fun (q : Nat) => [[(al, .inr (16, [.int (md + 1), .ref q, .int (nI 1)]))], [(q, .inl (D.1 104, 10, .inr (.inr (.inr (.inr (va_up (fun _ => none) 0 (some v)))))))], T]) u) D A) 1 10 A := by
  refine z_entry (by decide +kernel) (Nat.le_of_ble_eq_true rfl) (fun pX eX sX mX argsX blX mtX cX QX hQX gX hAX hnm => ?_)
  refine z_eq (lv₂ := [(0, .ref al), (1, .ref v)]) (st₂ := []) ?_ rfl rfl
  refine z_aload_n (pc := 0) gX 0 dJ2_add_0 rfl rfl ?_
  refine z_dup (pc := 1) gX dJ2_add_1 rfl ?_
  refine z_get (pc := 2) gX (zI_ok gX hAX) (zm 0 rfl) (ci := 16) (C := RJ2) (T := TJ2) (N := 3) rfl in_J2 0 (by decide) q134 (u_same (gX.ts _ q135)) (v := .int md) rfl dJ2_add_2 ?_
  refine z_iconst (pc := 5) gX 1 dJ2_add_5 (by decide) ?_
  refine z_iadd (pc := 6) gX dJ2_add_6 ?_
  refine z_put (pc := 7) gX hAX 0 rfl (ci := 16) (C := RJ2) (T := TJ2) (N := 3) rfl in_J2 tyJ2 tyJ2_ok nmJ2 0 (by decide) q134 (u_same (gX.ts _ q135)) rfl (v := .int (md + 1)) rfl rfl (Nat.le_of_ble_eq_true rfl) [[(al, .inr (16, [.int (md + 1), .ref (zEE D), .int (nI 0)]))], T] rfl dJ2_add_7 ?_
  refine z_aload_n (pc := 10) gX 0 dJ2_add_10 rfl rfl ?_
  refine z_aload_n (pc := 11) gX 1 dJ2_add_11 rfl rfl ?_
  refine z_aload_n (pc := 12) gX 0 dJ2_add_12 rfl rfl ?_
  refine z_get (pc := 13) gX (zI_ok gX hAX) (zm 0 rfl) (ci := 16) (C := RJ2) (T := TJ2) (N := 3) rfl in_J2 1 (by decide) q131 (fun _ h => h) (v := .ref (zEE D)) rfl dJ2_add_13 ?_
  refine z_aload_n (pc := 16) gX 0 dJ2_add_16 rfl rfl ?_
  refine z_get (pc := 17) gX (zI_ok gX hAX) (zm 0 rfl) (ci := 16) (C := RJ2) (T := TJ2) (N := 3) rfl in_J2 2 (by decide) q132 (fun _ h => h) (v := .int (nI 0)) rfl dJ2_add_17 ?_
  refine z_cMV (pc := 20) gX hAX [.ref v, .ref (zEE D), .int (nI 0)] [] [0, 1] [] (fun A1 => met_J2_add_2f l D B0 A1 al (md + 1) T v ci vs r (by first | assumption | omega) (by first | assumption | omega)) q723 q725 qs15 q52 q726 (zm 0 rfl) (ci := 16) rfl rfl hd_J2_add_2 ⟨rfl, rfl⟩ ⟨(Nat.le_of_ble_eq_true rfl), (Nat.le_of_ble_eq_true rfl)⟩ rfl rfl rfl rfl rfl (Nat.le_of_ble_eq_true rfl) ⟨(Nat.le_of_ble_eq_true rfl), (Nat.le_of_ble_eq_true rfl)⟩ dJ2_add_20 ?_
  intro u20 hu20
  obtain ⟨q_20, rfl⟩ : ∃ z, z = u20 := ⟨_, rfl⟩
  refine z_re [0, 1, 2] [[(al, .inr (16, [.int (md + 1), .ref q_20, .int (nI 1)]))], [(q_20, .inl (D.1 104, 10, .inr (.inr (.inr (.inr (va_up (fun _ => none) 0 (some v)))))))], T] rfl rfl ?_
  refine z_norm [[(al, .inr (16, [.int (md + 1), .ref q_20, .int (nI 1)]))], [(q_20, .inl (D.1 104, 10, .inr (.inr (.inr (.inr (va_up (fun _ => none) 0 (some v)))))))], T] 1 10 ?_ rfl rfl rfl
  refine z_eq (lv₂ := [(0, .ref al), (1, .ref v)]) (st₂ := []) ?_ rfl rfl
  refine z_iconst (pc := 23) gX 1 dJ2_add_23 (by decide) ?_
  exact z_rzm gX hQX q_20 trivial (zbv rfl) rfl (by first | decide | omega) (by first | decide | omega) dJ2_add_24

set_option maxHeartbeats 4000000 in
theorem met_J2_clearg (l : Launch) (D : va_G) (B0 : Nat) (A : Nat → Prop) (al : Nat) (md : Int32) (d : Nat) (n : Nat) (f : Nat → Option Nat) (hn : n ≤ 10) : Met l yJ2_clear (ws_ yJ2_clear cJ2_clear 4 none) (zRm 1 0 0) (va_Pc [.ref al] (zPre B0 D A [[(al, .inr (16, [.int md, .ref d, .int (nI n)]))], [(d, .inl (D.1 104, 10, .inr (.inr (.inr (.inr f)))))]])) (zQ (S := Unit) (fun _ => True) (fun _ => none) (fun _ => [[(al, .inr (16, [.int (md + 1), .ref d, .int (nI 0)]))], [(d, .inl (D.1 104, 10, .inr (.inr (.inr (.inr (clQ f n))))))]]) D A) 0 0 A := by
  refine z_entry (by decide +kernel) (Nat.le_of_ble_eq_true rfl) (fun pX eX sX mX argsX blX mtX cX QX hQX gX hAX hnm => ?_)
  refine z_eq (lv₂ := [(0, .ref al)]) (st₂ := []) ?_ rfl rfl
  refine z_aload_n (pc := 0) gX 0 dJ2_clear_0 rfl rfl ?_
  refine z_dup (pc := 1) gX dJ2_clear_1 rfl ?_
  refine z_get (pc := 2) gX (zI_ok gX hAX) (zm 0 rfl) (ci := 16) (C := RJ2) (T := TJ2) (N := 3) rfl in_J2 0 (by decide) q134 (u_same (gX.ts _ q135)) (v := .int md) rfl dJ2_clear_2 ?_
  refine z_iconst (pc := 5) gX 1 dJ2_clear_5 (by decide) ?_
  refine z_iadd (pc := 6) gX dJ2_clear_6 ?_
  refine z_put (pc := 7) gX hAX 0 rfl (ci := 16) (C := RJ2) (T := TJ2) (N := 3) rfl in_J2 tyJ2 tyJ2_ok nmJ2 0 (by decide) q134 (u_same (gX.ts _ q135)) rfl (v := .int (md + 1)) rfl rfl (Nat.le_of_ble_eq_true rfl) [[(al, .inr (16, [.int (md + 1), .ref d, .int (nI n)]))], [(d, .inl (D.1 104, 10, .inr (.inr (.inr (.inr f)))))]] rfl dJ2_clear_7 ?_
  refine z_aload_n (pc := 10) gX 0 dJ2_clear_10 rfl rfl ?_
  refine z_get (pc := 11) gX (zI_ok gX hAX) (zm 0 rfl) (ci := 16) (C := RJ2) (T := TJ2) (N := 3) rfl in_J2 1 (by decide) q131 (fun _ h => h) (v := .ref d) rfl dJ2_clear_11 ?_
  refine z_astore_n (pc := 14) gX [1, 0] [(0, .ref al), (1, .ref d)] dJ2_clear_14 rfl (by decide) rfl ?_
  refine z_aload_n (pc := 15) gX 0 dJ2_clear_15 rfl rfl ?_
  refine z_get (pc := 16) gX (zI_ok gX hAX) (zm 0 rfl) (ci := 16) (C := RJ2) (T := TJ2) (N := 3) rfl in_J2 2 (by decide) q132 (fun _ h => h) (v := .int (nI n)) rfl dJ2_clear_16 ?_
  refine z_istore_n (pc := 19) gX [1, 2, 0] [(0, .ref al), (1, .ref d), (2, .int (nI n))] dJ2_clear_19 rfl (by decide) rfl ?_
  refine z_aload_n (pc := 20) gX 0 dJ2_clear_20 rfl rfl ?_
  refine z_iconst (pc := 21) gX 0 dJ2_clear_21 (by decide) ?_
  refine z_dup_x1 (pc := 22) gX dJ2_clear_22 rfl rfl ?_
  refine z_put (pc := 23) gX hAX 0 rfl (ci := 16) (C := RJ2) (T := TJ2) (N := 3) rfl in_J2 tyJ2 tyJ2_ok nmJ2 2 (by decide) q132 (fun _ h => h) rfl (v := .int 0) rfl rfl (Nat.le_of_ble_eq_true rfl) [[(al, .inr (16, [.int (md + 1), .ref d, .int 0]))], [(d, .inl (D.1 104, 10, .inr (.inr (.inr (.inr f)))))]] rfl dJ2_clear_23 ?_
  refine z_istore_n (pc := 26) gX [1, 2, 3, 0] [(0, .ref al), (1, .ref d), (2, .int (nI n)), (3, .int 0)] dJ2_clear_26 rfl (by decide) rfl ?_
  have L27 : ∀ (n27 : Nat) (i : Nat) (f1 : Nat → Option Nat), (i ≤ n) → (f1 = clQ f i) → n - i < n27 → zJ pX l eX (zRm 1 0 0) sX mX argsX blX mtX cX QX 4 (zI D A sX [[(al, .inr (16, [.int (md + 1), .ref d, .int 0]))], [(d, .inl (D.1 104, 10, .inr (.inr (.inr (.inr f1)))))]]) 0 0 27 [(0, .ref al), (1, .ref d), (2, .int (nI n)), (3, .int (nI i))] [] := by
    intro n27
    induction n27 with
    | zero => exact fun i f1 hi hf hm27 => absurd hm27 (Nat.not_lt_zero _)
    | succ n27 ih27 =>
      intro i f1 hi hf hm27
      refine z_iload_n (pc := 27) gX 3 dJ2_clear_27 rfl rfl ?_
      refine z_iload_n (pc := 28) gX 2 dJ2_clear_28 rfl rfl ?_
      refine z_icmp_ge (pc := 29) gX 42 dJ2_clear_29 (by decide) (fun c29 => ?_) (fun c29 => ?_)
      · skip
        have k29 : n ≤ i := (zn_le (a := n) (b := i) (by omega) (by omega)).mp c29
        exact z_vret gX hQX () trivial rfl (by rw [hf, show i = n by omega]; rfl) (by first | decide | omega) (by first | decide | omega) dJ2_clear_42
      · skip
        have k29 : i < n := (zn_nle (a := n) (b := i) (by omega) (by omega)).mp c29
        refine z_aload_n (pc := 32) gX 1 dJ2_clear_32 rfl rfl ?_
        refine z_iload_n (pc := 33) gX 3 dJ2_clear_33 rfl rfl ?_
        refine z_aconst_null (pc := 34) gX dJ2_clear_34 ?_
        refine z_astN (pc := 35) gX hAX 1 (j := i) (n := 10) (f := f1) rfl 4 rfl (by omega) (by decide) [[(al, .inr (16, [.int (md + 1), .ref d, .int 0]))], [(d, .inl (D.1 104, 10, .inr (.inr (.inr (.inr (va_up f1 i none))))))]] rfl dJ2_clear_35 ?_
        refine z_iinc (pc := 36) gX 3 (nI (i + 1)) [1, 2, 3, 0] [(0, .ref al), (1, .ref d), (2, .int (nI n)), (3, .int (nI (i + 1)))] dJ2_clear_36 rfl (nI_1 _) (by decide) rfl ?_
        refine z_goto (pc := 39) gX 27 dJ2_clear_39 (by decide) ?_
        exact ih27 (i + 1) (va_up f1 i none) (by omega) (by rw [hf]; exact clQ_s f i) (by omega)
  exact L27 ((n - 0) + 1) 0 f (by omega) ((clQ_0 f).symm) (Nat.lt_succ_self _)
theorem hd_J2_clear : zHd yJ2_clear 0 := by unfold zHd; decide +kernel

set_option maxHeartbeats 4000000 in
theorem met_J2_clearf (l : Launch) (D : va_G) (B0 : Nat) (A : Nat → Prop) (al : Nat) (md : Int32)  : Met l yJ2_clear (ws_ yJ2_clear cJ2_clear 4 none) (zRm 1 0 0) (va_Pc [.ref al] (zPre B0 D A [[(al, .inr (16, [.int md, .ref (zEE D), .int (nI 0)]))]])) (zQ (S := Unit) (fun _ => True) (fun _ => none) (fun _ => [[(al, .inr (16, [.int (md + 1), .ref (zEE D), .int (nI 0)]))]]) D A) 0 0 A := by
  refine z_entry (by decide +kernel) (Nat.le_of_ble_eq_true rfl) (fun pX eX sX mX argsX blX mtX cX QX hQX gX hAX hnm => ?_)
  refine z_eq (lv₂ := [(0, .ref al)]) (st₂ := []) ?_ rfl rfl
  refine z_aload_n (pc := 0) gX 0 dJ2_clear_0 rfl rfl ?_
  refine z_dup (pc := 1) gX dJ2_clear_1 rfl ?_
  refine z_get (pc := 2) gX (zI_ok gX hAX) (zm 0 rfl) (ci := 16) (C := RJ2) (T := TJ2) (N := 3) rfl in_J2 0 (by decide) q134 (u_same (gX.ts _ q135)) (v := .int md) rfl dJ2_clear_2 ?_
  refine z_iconst (pc := 5) gX 1 dJ2_clear_5 (by decide) ?_
  refine z_iadd (pc := 6) gX dJ2_clear_6 ?_
  refine z_put (pc := 7) gX hAX 0 rfl (ci := 16) (C := RJ2) (T := TJ2) (N := 3) rfl in_J2 tyJ2 tyJ2_ok nmJ2 0 (by decide) q134 (u_same (gX.ts _ q135)) rfl (v := .int (md + 1)) rfl rfl (Nat.le_of_ble_eq_true rfl) [[(al, .inr (16, [.int (md + 1), .ref (zEE D), .int (nI 0)]))]] rfl dJ2_clear_7 ?_
  refine z_aload_n (pc := 10) gX 0 dJ2_clear_10 rfl rfl ?_
  refine z_get (pc := 11) gX (zI_ok gX hAX) (zm 0 rfl) (ci := 16) (C := RJ2) (T := TJ2) (N := 3) rfl in_J2 1 (by decide) q131 (fun _ h => h) (v := .ref (zEE D)) rfl dJ2_clear_11 ?_
  refine z_astore_n (pc := 14) gX [1, 0] [(0, .ref al), (1, .ref (zEE D))] dJ2_clear_14 rfl (by decide) rfl ?_
  refine z_aload_n (pc := 15) gX 0 dJ2_clear_15 rfl rfl ?_
  refine z_get (pc := 16) gX (zI_ok gX hAX) (zm 0 rfl) (ci := 16) (C := RJ2) (T := TJ2) (N := 3) rfl in_J2 2 (by decide) q132 (fun _ h => h) (v := .int (nI 0)) rfl dJ2_clear_16 ?_
  refine z_istore_n (pc := 19) gX [1, 2, 0] [(0, .ref al), (1, .ref (zEE D)), (2, .int (nI 0))] dJ2_clear_19 rfl (by decide) rfl ?_
  refine z_aload_n (pc := 20) gX 0 dJ2_clear_20 rfl rfl ?_
  refine z_iconst (pc := 21) gX 0 dJ2_clear_21 (by decide) ?_
  refine z_dup_x1 (pc := 22) gX dJ2_clear_22 rfl rfl ?_
  refine z_put (pc := 23) gX hAX 0 rfl (ci := 16) (C := RJ2) (T := TJ2) (N := 3) rfl in_J2 tyJ2 tyJ2_ok nmJ2 2 (by decide) q132 (fun _ h => h) rfl (v := .int 0) rfl rfl (Nat.le_of_ble_eq_true rfl) [[(al, .inr (16, [.int (md + 1), .ref (zEE D), .int 0]))]] rfl dJ2_clear_23 ?_
  refine z_istore_n (pc := 26) gX [1, 2, 3, 0] [(0, .ref al), (1, .ref (zEE D)), (2, .int (nI 0)), (3, .int 0)] dJ2_clear_26 rfl (by decide) rfl ?_
  refine z_iload_n (pc := 27) gX 3 dJ2_clear_27 rfl rfl ?_
  refine z_iload_n (pc := 28) gX 2 dJ2_clear_28 rfl rfl ?_
  refine z_icmp_ge (pc := 29) gX 42 dJ2_clear_29 (by decide) (fun c29 => ?_) (fun c29 => ?_)
  · skip
    have k29 : 0 ≤ 0 := (zn_le (a := 0) (b := 0) (by omega) (by omega)).mp c29
    exact z_vret gX hQX () trivial rfl rfl (by first | decide | omega) (by first | decide | omega) dJ2_clear_42
  · skip
    have k29 : 0 < 0 := (zn_nle (a := 0) (b := 0) (by omega) (by omega)).mp c29
    exact absurd c29 (by decide)

set_option maxHeartbeats 4000000 in
theorem met_J2_set (l : Launch) (D : va_G) (B0 : Nat) (A : Nat → Prop) (al : Nat) (md : Int32) (d : Nat) (n : Nat) (f : Nat → Option Nat) (i : Nat) (u0 : Nat) (T : va_W) (v : Nat) (ci : Nat) (vs : List Value) (r : vw_C) (hn : n ≤ 10) (hi : i < n) (hu : f i = some u0) (hv : (v, .inr (ci, vs)) ∈ T) (hc : vwCl[ci]? = some r) : Met l yJ2_set (ws_ yJ2_set cJ2_set 4 (some (.object "java/lang/Object"))) (zRm 3 0 0) (va_Pc [.ref al, .int (nI i), .ref v] (zPre B0 D A [[(al, .inr (16, [.int md, .ref d, .int (nI n)]))], [(d, .inl (D.1 104, 10, .inr (.inr (.inr (.inr f)))))], T])) (zQ (S := Unit) (fun _ => True) (fun _ => some (.ref u0)) (fun _ => [[(al, .inr (16, [.int md, .ref d, .int (nI n)]))], [(d, .inl (D.1 104, 10, .inr (.inr (.inr (.inr (va_up f i (some v)))))))], T]) D A) 0 0 A := by
  refine z_entry (by decide +kernel) (Nat.le_of_ble_eq_true rfl) (fun pX eX sX mX argsX blX mtX cX QX hQX gX hAX hnm => ?_)
  refine z_eq (lv₂ := [(0, .ref al), (1, .int (nI i)), (2, .ref v)]) (st₂ := []) ?_ rfl rfl
  refine z_iload_n (pc := 0) gX 1 dJ2_set_0 rfl rfl ?_
  refine z_aload_n (pc := 1) gX 0 dJ2_set_1 rfl rfl ?_
  refine z_get (pc := 2) gX (zI_ok gX hAX) (zm 0 rfl) (ci := 16) (C := RJ2) (T := TJ2) (N := 3) rfl in_J2 2 (by decide) q132 (fun _ h => h) (v := .int (nI n)) rfl dJ2_set_2 ?_
  refine z_cOS (pc := 5) gX (zI_ok gX hAX) [.int (nI i), .int (nI n)] [] [] (met_J19_checkIndex l D B0 i n (by first | assumption | omega) (by first | assumption | omega)) q807 q808 q80 q809 hd_J19_checkIndex ⟨rfl, rfl⟩ ⟨(Nat.le_of_ble_eq_true rfl), (Nat.le_of_ble_eq_true rfl)⟩ rfl rfl rfl (Nat.le_of_ble_eq_true rfl) ⟨(Nat.le_of_ble_eq_true rfl), (Nat.le_of_ble_eq_true rfl)⟩ dJ2_set_5 ?_
  intro _ hu5
  refine z_eq (lv₂ := [(0, .ref al), (1, .int (nI i)), (2, .ref v)]) (st₂ := [.int (nI i)]) ?_ rfl rfl
  refine z_pop (pc := 8) gX dJ2_set_8 rfl ?_
  refine z_aload_n (pc := 9) gX 0 dJ2_set_9 rfl rfl ?_
  refine z_iload_n (pc := 10) gX 1 dJ2_set_10 rfl rfl ?_
  refine z_cOV (pc := 11) gX (zI_ok gX hAX) [.int (nI i)] [] [0, 1] (met_J2_elementData l D B0 al md d n f i u0 (by first | assumption | omega) (by first | assumption | omega)) q813 q814 q815 q52 q816 (zm 0 rfl) (ci := 16) rfl rfl hd_J2_elementData ⟨rfl, rfl⟩ ⟨(Nat.le_of_ble_eq_true rfl), (Nat.le_of_ble_eq_true rfl)⟩ rfl rfl rfl (Nat.le_of_ble_eq_true rfl) ⟨(Nat.le_of_ble_eq_true rfl), (Nat.le_of_ble_eq_true rfl)⟩ dJ2_set_11 ?_
  intro _ hu11
  refine z_eq (lv₂ := [(0, .ref al), (1, .int (nI i)), (2, .ref v)]) (st₂ := [.ref u0]) ?_ rfl rfl
  refine z_astore_n (pc := 14) gX [1, 2, 3, 0] [(0, .ref al), (1, .int (nI i)), (2, .ref v), (3, .ref u0)] dJ2_set_14 rfl (by decide) rfl ?_
  refine z_aload_n (pc := 15) gX 0 dJ2_set_15 rfl rfl ?_
  refine z_get (pc := 16) gX (zI_ok gX hAX) (zm 0 rfl) (ci := 16) (C := RJ2) (T := TJ2) (N := 3) rfl in_J2 1 (by decide) q131 (fun _ h => h) (v := .ref d) rfl dJ2_set_16 ?_
  refine z_iload_n (pc := 19) gX 1 dJ2_set_19 rfl rfl ?_
  refine z_aload_n (pc := 20) gX 2 dJ2_set_20 rfl rfl ?_
  refine z_ast (pc := 21) gX hAX 1 (j := i) (n := 10) (f := f) rfl 4 rfl (by omega) (by decide) (zpm 2 rfl hv) hc (zObjA gX hc) [[(al, .inr (16, [.int md, .ref d, .int (nI n)]))], [(d, .inl (D.1 104, 10, .inr (.inr (.inr (.inr (va_up f i (some v)))))))], T] rfl dJ2_set_21 ?_
  refine z_aload_n (pc := 22) gX 3 dJ2_set_22 rfl rfl ?_
  exact z_aret gX hQX (by first | exact Or.inl ⟨_, rfl⟩ | exact Or.inr ⟨_, rfl⟩) (Or.inr ⟨_, rfl⟩) () trivial rfl rfl (by first | decide | omega) (by first | decide | omega) dJ2_set_23
theorem hd_J2_set : zHd yJ2_set 2 := by unfold zHd; decide +kernel

