set_option maxRecDepth 100000
/-! ITEMS of a row; what fits -/
theorem nI_or (a b : Nat) : nI a ||| nI b = nI (a ||| b) := by
  apply Int32.toBitVec_inj.1
  show BitVec.ofNat 32 a ||| BitVec.ofNat 32 b = BitVec.ofNat 32 (a ||| b)
  apply BitVec.eq_of_getLsbD_eq
  intro i hi
  simp [hi]
theorem it64 {a b n : Nat} (ha : a < 2 ^ 31) (hb : b ≤ 12) (hn : n ≤ 40) : lg_cmp ((nI a).toInt64 + (nI b).toInt64) (nI n).toInt64 ≤ 0 ↔ a + b ≤ n := by
  have e : ∀ z : Nat, z < 2 ^ 31 → (nI z).toInt64.toInt = (z : Int) := fun z hz => by rw [Int32.toInt_toInt64, nI_toInt hz]
  rw [lg_cmp_le, Int64.le_iff_toInt_le, Int64.toInt_add, e a ha, e b (by omega), e n (by omega), Int.bmod_eq_of_le (by omega) (by omega)]
  omega
theorem it_sub {n m : Nat} (h : m ≤ n) : nI n - nI m = nI (n - m) := by
  have : nI n = nI (n - m) + nI m := by rw [nI_add]; congr 1; omega
  rw [this, Int32.add_sub_cancel]
theorem it_lies {n m a : Nat} (hn : n ≤ 40) (h : a + m ≤ n) : mLies (nI n) (nI a) (nI m) = true := by
  simp only [mLies, Bool.and_eq_true, decide_eq_true_eq]
  exact ⟨⟨⟨nI_pos' (by omega), nI_pos' (by omega)⟩, nI_le (by omega) (by omega)⟩, by rw [it_sub (by omega)]; exact nI_le (by omega) (by omega)⟩
theorem it_li2 {n m : Nat} {i : Int32} (hn : n ≤ 40) (hm : m ≤ 12) (h0 : ¬ i < 0) (h : lg_cmp (i.toInt64 + (nI m).toInt64) (nI n).toInt64 ≤ 0) : mLies (nI n) i (nI m) = true := by
  obtain ⟨a, ha, rfl⟩ := nI_of h0
  exact it_lies hn ((it64 ha hm hn).mp h)
/-- bits alone -/
def sml (x : Int32) : Prop := ∃ a : Nat, a < 65536 ∧ x = nI a
theorem sml_or {x y : Int32} (hx : sml x) (hy : sml y) : sml (x ||| y) := by
  obtain ⟨a, ha, rfl⟩ := hx
  obtain ⟨b, hb, rfl⟩ := hy
  exact ⟨a ||| b, Nat.or_lt_two_pow (n := 16) ha hb, nI_or a b⟩
theorem sml_f {w n k : Nat} {c : Nat → Int32} {j : Nat} {it : Nat → Int32} {fr m v : Nat} (h : v < 16) : sml (ftF w n k c j it fr m v) := by
  simp only [ftF]
  split
  · have : ∀ v : Nat, v < 16 → (1 : Int32) <<< (nI v &&& 31) = nI (2 ^ v) ∧ 2 ^ v < 65536 := by decide +kernel
    exact ⟨_, (this v h).2, (this v h).1⟩
  · exact ⟨0, by decide, rfl⟩
theorem sml_g {f : Nat → Int32} {lo : Nat} : ∀ i, (∀ z, z < i → sml (f (lo + z))) → sml (orG f lo i)
  | 0, _ => ⟨0, by decide, rfl⟩
  | i + 1, h => sml_or (sml_g i (fun z hz => h z (by omega))) (h i (by omega))
theorem sml_in {x : Int32} (h : sml x) : mIn x (-1000015) (-1000011) = false := by
  obtain ⟨a, ha, rfl⟩ := h
  have : decide (nI a ≤ -1000011) = false := by
    apply decide_eq_false
    intro z
    exact nI_pos (n := a) (by omega) (Int32.lt_of_le_of_lt z (by decide))
  simp only [mIn, this, Bool.and_false]
theorem mSt_ft {x : Nat → Int32} {w n k : Nat} {c : Nat → Int32} {j : Nat} {it : Nat → Int32} {fr m : Nat} (hk : k ≤ 12) : mSt x (ftS w n k c j it fr m) = upd x 0 0 := by
  have h : sml (ftS w n k c j it fr m) := by
    refine sml_g _ (fun z hz => sml_f ?_)
    rcases w with _ | _ | _ | w <;> simp only [hiW, loW] at hz ⊢ <;> omega
  simp only [mSt, sml_in h]
  rfl
theorem ft_congr {w n k : Nat} {c : Nat → Int32} {j : Nat} {tf it : Nat → Int32} {fr mm : Nat} (h : ∀ i, i < mm → tf i = it (fr + i)) : ftS w n k c j tf 0 mm = ftS w n k c j it fr mm := by
  have e : ∀ v, ftF w n k c j tf 0 mm v = ftF w n k c j it fr mm v := fun v => by
    simp only [ftF]
    rw [so_congr (it := tf) (it2 := it) (fr := 0) (fr2 := fr) mm (fun i hi => by rw [Nat.zero_add]; exact h i hi)]
  simp only [ftS]
  rw [show ftF w n k c j tf 0 mm = ftF w n k c j it fr mm from funext e]

set_option maxHeartbeats 4000000 in
theorem met_X0_itemsN (l : Launch) (D : va_G) (B0 : Nat) (A : Nat → Prop) (o : Nat) (ad : Nat → Nat) (sa : Nat → Nat) (sb : Nat → Nat) (tr : Nat) (x : Nat → Int32) (sh : Nat → Nat) (rw : Nat → rT) (i : Nat) (i_ : Int32) (mm : Nat) (hl : l.stackTraces = false) (hi : i < 8) (hrr : rw i = none) : vz_Met l yX0_items (ws_ yX0_items cX0_items 7 (some (.array .int))) (zRm 172 1 8) (va_Pc [.ref o, .int (nI i), .int i_, .int (nI mm)] (zPre B0 D A [cOb o ad (sa 0) (sb 0) tr x, [(ad 0, .inl (D.1 105, 8, .inr (.inr (.inr (.inr (rF sh 8))))))], slP D sh rw 8])) (zQ (S := Unit) (fun _ => False) (fun _ => none) (fun _ => []) D A) (zXC (S := Unit) (fun q_ E_ => fun _ => E_ = "java/lang/NullPointerException" ∧ True) (fun _ => [cOb o ad (sa 0) (sb 0) tr x, [(ad 0, .inl (D.1 105, 8, .inr (.inr (.inr (.inr (rF sh 8))))))], slP D sh rw 8]) D A) 1 8 A := by
  refine z_xentry (by decide +kernel) (Nat.le_of_ble_eq_true rfl) (fun pX eX sX mX argsX blX mtX cX QX hQX gX hAX hnm htX => ?_)
  refine z_eq (lv₂ := [(0, .ref o), (1, .int (nI i)), (2, .int i_), (3, .int (nI mm))]) (st₂ := []) ?_ rfl rfl
  refine z_ws [cOb o ad (sa 0) (sb 0) tr x, [(ad 0, .inl (D.1 105, 8, .inr (.inr (.inr (.inr (rF sh 8))))))], [(sh i, .inr (1, [.null]))], slR D sh rw i] (sg_perm [[(sh i, .inr (1, [.null]))], slR D sh rw i] 2 rfl rfl (sl_on (D := D) (sh := sh) (rw := rw) (i := i) (by omega) hrr)) ?_
  refine z_aload_n (pc := 0) gX 0 dX0_items_0 rfl rfl ?_
  refine z_get (pc := 1) gX (zI_ok gX hAX) (zm 0 rfl) (ci := 0) (C := RX0) (T := TX0) (N := 14) rfl in_X0 0 (by decide) q207 (fun _ h => h) (v := .ref (ad 0)) rfl dX0_items_1 ?_
  refine z_iload_n (pc := 4) gX 1 dX0_items_4 rfl rfl ?_
  refine z_ald (pc := 5) gX (zI_ok gX hAX) (j := i) (n := 8) (f := (rF sh 8)) (zm 1 rfl) 5 rfl (by omega) (by decide) (sh i) (rF_lt (by omega)) dX0_items_5 ?_
  refine z_xVN (pc := 6) gX hAX [] [] [2] [0, 1, 3] (fun A1 => met_X1_manyN l D B0 A1 (sh i) (by first | assumption | omega)) (zm 9 rfl) q451 qs6 q48 q452 (zm 2 rfl) (ci := 1) rfl hd_X1_many ⟨rfl, rfl⟩ ⟨(Nat.le_of_ble_eq_true rfl), (Nat.le_of_ble_eq_true rfl)⟩ rfl rfl rfl rfl rfl (Nat.le_of_ble_eq_true rfl) ⟨(Nat.le_of_ble_eq_true rfl), (Nat.le_of_ble_eq_true rfl)⟩ dX0_items_6 (fun E_6 u_6 => ?_) (fun _ hF => hF.elim)
  refine z_xpx (E0 := "java/lang/NullPointerException") (PX1 := fun q_ => True) (fun _ h => h) ?_
  refine z_xper [1, 2, 0, 3] [cOb o ad (sa 0) (sb 0) tr x, [(ad 0, .inl (D.1 105, 8, .inr (.inr (.inr (.inr (rF sh 8))))))], [(sh i, .inr (1, [.null]))], slR D sh rw i] rfl rfl ?_
  refine z_xper [0, 1, 2, 3] [cOb o ad (sa 0) (sb 0) tr x, [(ad 0, .inl (D.1 105, 8, .inr (.inr (.inr (.inr (rF sh 8))))))], [(sh i, .inr (1, [.null]))], slR D sh rw i] rfl rfl ?_
  refine z_xws [cOb o ad (sa 0) (sb 0) tr x, [(ad 0, .inl (D.1 105, 8, .inr (.inr (.inr (.inr (rF sh 8))))))], slP D sh (setR rw i none) 8] (gs_perm (slP D sh (setR rw i none) 8) 2 2 rfl (sl_cn (D := D) (sh := sh) (rw := rw) (i := i) (by omega))) ?_
  refine z_xre [cOb o ad (sa 0) (sb 0) tr x, [(ad 0, .inl (D.1 105, 8, .inr (.inr (.inr (.inr (rF sh 8))))))], slP D sh rw 8] (by rw [(show setR rw i (none) = rw by rw [← hrr]; exact setR_id)]) ?_
  exact z_xout gX hQX (htX _) (fun _ => ()) (fun _ _ => ⟨rfl, trivial⟩) (fun _ => rfl) (by first | decide | omega) (by first | decide | omega)
theorem hd_X0_items : zHd yX0_items 3 := by unfold zHd; decide +kernel

set_option maxHeartbeats 4000000 in
theorem met_X0_itemsZ (l : Launch) (D : va_G) (B0 : Nat) (A : Nat → Prop) (o : Nat) (ad : Nat → Nat) (sa : Nat → Nat) (sb : Nat → Nat) (tr : Nat) (x : Nat → Int32) (sh : Nat → Nat) (rw : Nat → rT) (i : Nat) (i_ : Int32) (mm : Nat) (a : Nat) (w9 : Nat) (n9 : Nat) (f9 : Nat → Int32) (hl : l.stackTraces = false) (hi : i < 8) (hrr : rw i = some (a, w9, n9, f9)) (hw9 : w9 ≤ 2) (hn9 : n9 ≤ 40) (hm12 : mm ≤ 12) (hlie : mLies (nI n9) i_ (nI mm) = false) : vz_Met l yX0_items (ws_ yX0_items cX0_items 7 (some (.array .int))) (zRm 172 1 8) (va_Pc [.ref o, .int (nI i), .int i_, .int (nI mm)] (zPre B0 D A [cOb o ad (sa 0) (sb 0) tr x, [(ad 0, .inl (D.1 105, 8, .inr (.inr (.inr (.inr (rF sh 8))))))], slP D sh rw 8])) (zQ (S := Unit) (fun _ => False) (fun _ => none) (fun _ => []) D A) (zXC (S := Unit) (fun q_ E_ => fun _ => E_ = "java/lang/ArrayIndexOutOfBoundsException" ∧ True) (fun _ => [cOb o ad (sa 0) (sb 0) tr x, [(ad 0, .inl (D.1 105, 8, .inr (.inr (.inr (.inr (rF sh 8))))))], slP D sh rw 8]) D A) 1 8 A := by
  refine z_xentry (by decide +kernel) (Nat.le_of_ble_eq_true rfl) (fun pX eX sX mX argsX blX mtX cX QX hQX gX hAX hnm htX => ?_)
  refine z_eq (lv₂ := [(0, .ref o), (1, .int (nI i)), (2, .int i_), (3, .int (nI mm))]) (st₂ := []) ?_ rfl rfl
  rcases (show w9 = 0 ∨ w9 = 1 ∨ w9 = 2 by omega) with rfl | rfl | rfl
  · skip
    refine z_ws [cOb o ad (sa 0) (sb 0) tr x, [(ad 0, .inl (D.1 105, 8, .inr (.inr (.inr (.inr (rF sh 8))))))], [(sh i, .inr (1, [.ref a]))], [(a, .inl (D.1 101, n9, .inl f9))], slR D sh rw i] (sg_perm [[(sh i, .inr (1, [.ref a]))], [(a, .inl (D.1 101, n9, .inl f9))], slR D sh rw i] 2 rfl rfl (sl_os (D := D) (sh := sh) (rw := rw) (i := i) (w := 0) (by omega) hrr)) ?_
    refine z_aload_n (pc := 0) gX 0 dX0_items_0 rfl rfl ?_
    refine z_get (pc := 1) gX (zI_ok gX hAX) (zm 0 rfl) (ci := 0) (C := RX0) (T := TX0) (N := 14) rfl in_X0 0 (by decide) q207 (fun _ h => h) (v := .ref (ad 0)) rfl dX0_items_1 ?_
    refine z_iload_n (pc := 4) gX 1 dX0_items_4 rfl rfl ?_
    refine z_ald (pc := 5) gX (zI_ok gX hAX) (j := i) (n := 8) (f := (rF sh 8)) (zm 1 rfl) 5 rfl (by omega) (by decide) (sh i) (rF_lt (by omega)) dX0_items_5 ?_
    refine z_cOVN (pc := 6) gX (zI_ok gX hAX) [] [] [2, 3] (met_X1_many_0 l D B0 (sh i) a n9 f9 hn9) (zm 9 rfl) q451 qs6 q48 hd_X1_many q452 (zm 2 rfl) (ci := 1) rfl ⟨rfl, rfl⟩ ⟨(Nat.le_of_ble_eq_true rfl), (Nat.le_of_ble_eq_true rfl)⟩ rfl rfl rfl (Nat.le_of_ble_eq_true rfl) ⟨(Nat.le_of_ble_eq_true rfl), (Nat.le_of_ble_eq_true rfl)⟩ dX0_items_6 ?_
    intro _ hu6
    refine z_eq (lv₂ := [(0, .ref o), (1, .int (nI i)), (2, .int i_), (3, .int (nI mm))]) (st₂ := [.int (nI n9)]) ?_ rfl rfl
    refine z_istore (pc := 9) gX [1, 2, 3, 4, 0] [(0, .ref o), (1, .int (nI i)), (2, .int i_), (3, .int (nI mm)), (4, .int (nI n9))] dX0_items_9 (by decide) rfl ?_
    refine z_iload_n (pc := 11) gX 2 dX0_items_11 rfl rfl ?_
    refine z_if_lt (pc := 12) gX 27 dX0_items_12 (by decide) (fun c12 => ?_) (fun c12 => ?_)
    · skip
      refine z_ws [cOb o ad (sa 0) (sb 0) tr x, [(ad 0, .inl (D.1 105, 8, .inr (.inr (.inr (.inr (rF sh 8))))))], slP D sh (setR rw i (some (a, 0, n9, f9))) 8] (gs_perm (slP D sh (setR rw i (some (a, 0, n9, f9))) 8) 2 3 rfl (sl_cs (D := D) (sh := sh) (rw := rw) (i := i) (a := a) (w := 0) (n := n9) (f := f9) (by omega))) ?_
      refine z_weq [cOb o ad (sa 0) (sb 0) tr x, [(ad 0, .inl (D.1 105, 8, .inr (.inr (.inr (.inr (rF sh 8))))))], slP D sh rw 8] (by rw [(show setR rw i (some (a, 0, n9, f9)) = rw by rw [← hrr]; exact setR_id)]) ?_
      exact z_throw0 (names := aiN) (pc := 27) gX hAX hl hQX htX ⟨by decide +kernel, by decide +kernel⟩ q393 q62 (zEx.of (by decide +kernel)) () (fun _ => ⟨rfl, trivial⟩) rfl ⟨by decide, by decide⟩ ⟨by first | decide | (simp only [zRm]; omega), by first | decide | (simp only [zRm]; omega)⟩ (by first | decide | omega) (by first | decide | omega) dX0_items_27 dX0_items_30 dX0_items_31 dX0_items_34
    · skip
      refine z_iload_n (pc := 15) gX 2 dX0_items_15 rfl rfl ?_
      refine z_i2l (pc := 16) gX dX0_items_16 ?_
      refine z_iload_n (pc := 17) gX 3 dX0_items_17 rfl rfl ?_
      refine z_i2l (pc := 18) gX dX0_items_18 ?_
      refine z_ladd (pc := 19) gX dX0_items_19 ?_
      refine z_iload (pc := 20) gX 4 dX0_items_20 rfl ?_
      refine z_i2l (pc := 22) gX dX0_items_22 ?_
      refine z_lcmp (pc := 23) gX dX0_items_23 ?_
      refine z_if_le (pc := 24) gX 35 dX0_items_24 (by decide) (fun c24 => ?_) (fun c24 => ?_)
      · skip
        exact absurd (it_li2 hn9 hm12 c12 c24) (by rw [hlie]; decide)
      · skip
        refine z_ws [cOb o ad (sa 0) (sb 0) tr x, [(ad 0, .inl (D.1 105, 8, .inr (.inr (.inr (.inr (rF sh 8))))))], slP D sh (setR rw i (some (a, 0, n9, f9))) 8] (gs_perm (slP D sh (setR rw i (some (a, 0, n9, f9))) 8) 2 3 rfl (sl_cs (D := D) (sh := sh) (rw := rw) (i := i) (a := a) (w := 0) (n := n9) (f := f9) (by omega))) ?_
        refine z_weq [cOb o ad (sa 0) (sb 0) tr x, [(ad 0, .inl (D.1 105, 8, .inr (.inr (.inr (.inr (rF sh 8))))))], slP D sh rw 8] (by rw [(show setR rw i (some (a, 0, n9, f9)) = rw by rw [← hrr]; exact setR_id)]) ?_
        exact z_throw0 (names := aiN) (pc := 27) gX hAX hl hQX htX ⟨by decide +kernel, by decide +kernel⟩ q393 q62 (zEx.of (by decide +kernel)) () (fun _ => ⟨rfl, trivial⟩) rfl ⟨by decide, by decide⟩ ⟨by first | decide | (simp only [zRm]; omega), by first | decide | (simp only [zRm]; omega)⟩ (by first | decide | omega) (by first | decide | omega) dX0_items_27 dX0_items_30 dX0_items_31 dX0_items_34
  · skip
    refine z_ws [cOb o ad (sa 0) (sb 0) tr x, [(ad 0, .inl (D.1 105, 8, .inr (.inr (.inr (.inr (rF sh 8))))))], [(sh i, .inr (1, [.ref a]))], [(a, .inl (D.1 102, n9, .inl f9))], slR D sh rw i] (sg_perm [[(sh i, .inr (1, [.ref a]))], [(a, .inl (D.1 102, n9, .inl f9))], slR D sh rw i] 2 rfl rfl (sl_os (D := D) (sh := sh) (rw := rw) (i := i) (w := 1) (by omega) hrr)) ?_
    refine z_aload_n (pc := 0) gX 0 dX0_items_0 rfl rfl ?_
    refine z_get (pc := 1) gX (zI_ok gX hAX) (zm 0 rfl) (ci := 0) (C := RX0) (T := TX0) (N := 14) rfl in_X0 0 (by decide) q207 (fun _ h => h) (v := .ref (ad 0)) rfl dX0_items_1 ?_
    refine z_iload_n (pc := 4) gX 1 dX0_items_4 rfl rfl ?_
    refine z_ald (pc := 5) gX (zI_ok gX hAX) (j := i) (n := 8) (f := (rF sh 8)) (zm 1 rfl) 5 rfl (by omega) (by decide) (sh i) (rF_lt (by omega)) dX0_items_5 ?_
    refine z_cOVN (pc := 6) gX (zI_ok gX hAX) [] [] [2, 3] (met_X1_many_1 l D B0 (sh i) a n9 f9 hn9) (zm 9 rfl) q451 qs6 q48 hd_X1_many q452 (zm 2 rfl) (ci := 1) rfl ⟨rfl, rfl⟩ ⟨(Nat.le_of_ble_eq_true rfl), (Nat.le_of_ble_eq_true rfl)⟩ rfl rfl rfl (Nat.le_of_ble_eq_true rfl) ⟨(Nat.le_of_ble_eq_true rfl), (Nat.le_of_ble_eq_true rfl)⟩ dX0_items_6 ?_
    intro _ hu6
    refine z_eq (lv₂ := [(0, .ref o), (1, .int (nI i)), (2, .int i_), (3, .int (nI mm))]) (st₂ := [.int (nI n9)]) ?_ rfl rfl
    refine z_istore (pc := 9) gX [1, 2, 3, 4, 0] [(0, .ref o), (1, .int (nI i)), (2, .int i_), (3, .int (nI mm)), (4, .int (nI n9))] dX0_items_9 (by decide) rfl ?_
    refine z_iload_n (pc := 11) gX 2 dX0_items_11 rfl rfl ?_
    refine z_if_lt (pc := 12) gX 27 dX0_items_12 (by decide) (fun c12 => ?_) (fun c12 => ?_)
    · skip
      refine z_ws [cOb o ad (sa 0) (sb 0) tr x, [(ad 0, .inl (D.1 105, 8, .inr (.inr (.inr (.inr (rF sh 8))))))], slP D sh (setR rw i (some (a, 1, n9, f9))) 8] (gs_perm (slP D sh (setR rw i (some (a, 1, n9, f9))) 8) 2 3 rfl (sl_cs (D := D) (sh := sh) (rw := rw) (i := i) (a := a) (w := 1) (n := n9) (f := f9) (by omega))) ?_
      refine z_weq [cOb o ad (sa 0) (sb 0) tr x, [(ad 0, .inl (D.1 105, 8, .inr (.inr (.inr (.inr (rF sh 8))))))], slP D sh rw 8] (by rw [(show setR rw i (some (a, 1, n9, f9)) = rw by rw [← hrr]; exact setR_id)]) ?_
      exact z_throw0 (names := aiN) (pc := 27) gX hAX hl hQX htX ⟨by decide +kernel, by decide +kernel⟩ q393 q62 (zEx.of (by decide +kernel)) () (fun _ => ⟨rfl, trivial⟩) rfl ⟨by decide, by decide⟩ ⟨by first | decide | (simp only [zRm]; omega), by first | decide | (simp only [zRm]; omega)⟩ (by first | decide | omega) (by first | decide | omega) dX0_items_27 dX0_items_30 dX0_items_31 dX0_items_34
    · skip
      refine z_iload_n (pc := 15) gX 2 dX0_items_15 rfl rfl ?_
      refine z_i2l (pc := 16) gX dX0_items_16 ?_
      refine z_iload_n (pc := 17) gX 3 dX0_items_17 rfl rfl ?_
      refine z_i2l (pc := 18) gX dX0_items_18 ?_
      refine z_ladd (pc := 19) gX dX0_items_19 ?_
      refine z_iload (pc := 20) gX 4 dX0_items_20 rfl ?_
      refine z_i2l (pc := 22) gX dX0_items_22 ?_
      refine z_lcmp (pc := 23) gX dX0_items_23 ?_
      refine z_if_le (pc := 24) gX 35 dX0_items_24 (by decide) (fun c24 => ?_) (fun c24 => ?_)
      · skip
        exact absurd (it_li2 hn9 hm12 c12 c24) (by rw [hlie]; decide)
      · skip
        refine z_ws [cOb o ad (sa 0) (sb 0) tr x, [(ad 0, .inl (D.1 105, 8, .inr (.inr (.inr (.inr (rF sh 8))))))], slP D sh (setR rw i (some (a, 1, n9, f9))) 8] (gs_perm (slP D sh (setR rw i (some (a, 1, n9, f9))) 8) 2 3 rfl (sl_cs (D := D) (sh := sh) (rw := rw) (i := i) (a := a) (w := 1) (n := n9) (f := f9) (by omega))) ?_
        refine z_weq [cOb o ad (sa 0) (sb 0) tr x, [(ad 0, .inl (D.1 105, 8, .inr (.inr (.inr (.inr (rF sh 8))))))], slP D sh rw 8] (by rw [(show setR rw i (some (a, 1, n9, f9)) = rw by rw [← hrr]; exact setR_id)]) ?_
        exact z_throw0 (names := aiN) (pc := 27) gX hAX hl hQX htX ⟨by decide +kernel, by decide +kernel⟩ q393 q62 (zEx.of (by decide +kernel)) () (fun _ => ⟨rfl, trivial⟩) rfl ⟨by decide, by decide⟩ ⟨by first | decide | (simp only [zRm]; omega), by first | decide | (simp only [zRm]; omega)⟩ (by first | decide | omega) (by first | decide | omega) dX0_items_27 dX0_items_30 dX0_items_31 dX0_items_34
  · skip
    refine z_ws [cOb o ad (sa 0) (sb 0) tr x, [(ad 0, .inl (D.1 105, 8, .inr (.inr (.inr (.inr (rF sh 8))))))], [(sh i, .inr (1, [.ref a]))], [(a, .inl (D.1 100, n9, .inl f9))], slR D sh rw i] (sg_perm [[(sh i, .inr (1, [.ref a]))], [(a, .inl (D.1 100, n9, .inl f9))], slR D sh rw i] 2 rfl rfl (sl_os (D := D) (sh := sh) (rw := rw) (i := i) (w := 2) (by omega) hrr)) ?_
    refine z_aload_n (pc := 0) gX 0 dX0_items_0 rfl rfl ?_
    refine z_get (pc := 1) gX (zI_ok gX hAX) (zm 0 rfl) (ci := 0) (C := RX0) (T := TX0) (N := 14) rfl in_X0 0 (by decide) q207 (fun _ h => h) (v := .ref (ad 0)) rfl dX0_items_1 ?_
    refine z_iload_n (pc := 4) gX 1 dX0_items_4 rfl rfl ?_
    refine z_ald (pc := 5) gX (zI_ok gX hAX) (j := i) (n := 8) (f := (rF sh 8)) (zm 1 rfl) 5 rfl (by omega) (by decide) (sh i) (rF_lt (by omega)) dX0_items_5 ?_
    refine z_cOVN (pc := 6) gX (zI_ok gX hAX) [] [] [2, 3] (met_X1_many_2 l D B0 (sh i) a n9 f9 hn9) (zm 9 rfl) q451 qs6 q48 hd_X1_many q452 (zm 2 rfl) (ci := 1) rfl ⟨rfl, rfl⟩ ⟨(Nat.le_of_ble_eq_true rfl), (Nat.le_of_ble_eq_true rfl)⟩ rfl rfl rfl (Nat.le_of_ble_eq_true rfl) ⟨(Nat.le_of_ble_eq_true rfl), (Nat.le_of_ble_eq_true rfl)⟩ dX0_items_6 ?_
    intro _ hu6
    refine z_eq (lv₂ := [(0, .ref o), (1, .int (nI i)), (2, .int i_), (3, .int (nI mm))]) (st₂ := [.int (nI n9)]) ?_ rfl rfl
    refine z_istore (pc := 9) gX [1, 2, 3, 4, 0] [(0, .ref o), (1, .int (nI i)), (2, .int i_), (3, .int (nI mm)), (4, .int (nI n9))] dX0_items_9 (by decide) rfl ?_
    refine z_iload_n (pc := 11) gX 2 dX0_items_11 rfl rfl ?_
    refine z_if_lt (pc := 12) gX 27 dX0_items_12 (by decide) (fun c12 => ?_) (fun c12 => ?_)
    · skip
      refine z_ws [cOb o ad (sa 0) (sb 0) tr x, [(ad 0, .inl (D.1 105, 8, .inr (.inr (.inr (.inr (rF sh 8))))))], slP D sh (setR rw i (some (a, 2, n9, f9))) 8] (gs_perm (slP D sh (setR rw i (some (a, 2, n9, f9))) 8) 2 3 rfl (sl_cs (D := D) (sh := sh) (rw := rw) (i := i) (a := a) (w := 2) (n := n9) (f := f9) (by omega))) ?_
      refine z_weq [cOb o ad (sa 0) (sb 0) tr x, [(ad 0, .inl (D.1 105, 8, .inr (.inr (.inr (.inr (rF sh 8))))))], slP D sh rw 8] (by rw [(show setR rw i (some (a, 2, n9, f9)) = rw by rw [← hrr]; exact setR_id)]) ?_
      exact z_throw0 (names := aiN) (pc := 27) gX hAX hl hQX htX ⟨by decide +kernel, by decide +kernel⟩ q393 q62 (zEx.of (by decide +kernel)) () (fun _ => ⟨rfl, trivial⟩) rfl ⟨by decide, by decide⟩ ⟨by first | decide | (simp only [zRm]; omega), by first | decide | (simp only [zRm]; omega)⟩ (by first | decide | omega) (by first | decide | omega) dX0_items_27 dX0_items_30 dX0_items_31 dX0_items_34
    · skip
      refine z_iload_n (pc := 15) gX 2 dX0_items_15 rfl rfl ?_
      refine z_i2l (pc := 16) gX dX0_items_16 ?_
      refine z_iload_n (pc := 17) gX 3 dX0_items_17 rfl rfl ?_
      refine z_i2l (pc := 18) gX dX0_items_18 ?_
      refine z_ladd (pc := 19) gX dX0_items_19 ?_
      refine z_iload (pc := 20) gX 4 dX0_items_20 rfl ?_
      refine z_i2l (pc := 22) gX dX0_items_22 ?_
      refine z_lcmp (pc := 23) gX dX0_items_23 ?_
      refine z_if_le (pc := 24) gX 35 dX0_items_24 (by decide) (fun c24 => ?_) (fun c24 => ?_)
      · skip
        exact absurd (it_li2 hn9 hm12 c12 c24) (by rw [hlie]; decide)
      · skip
        refine z_ws [cOb o ad (sa 0) (sb 0) tr x, [(ad 0, .inl (D.1 105, 8, .inr (.inr (.inr (.inr (rF sh 8))))))], slP D sh (setR rw i (some (a, 2, n9, f9))) 8] (gs_perm (slP D sh (setR rw i (some (a, 2, n9, f9))) 8) 2 3 rfl (sl_cs (D := D) (sh := sh) (rw := rw) (i := i) (a := a) (w := 2) (n := n9) (f := f9) (by omega))) ?_
        refine z_weq [cOb o ad (sa 0) (sb 0) tr x, [(ad 0, .inl (D.1 105, 8, .inr (.inr (.inr (.inr (rF sh 8))))))], slP D sh rw 8] (by rw [(show setR rw i (some (a, 2, n9, f9)) = rw by rw [← hrr]; exact setR_id)]) ?_
        exact z_throw0 (names := aiN) (pc := 27) gX hAX hl hQX htX ⟨by decide +kernel, by decide +kernel⟩ q393 q62 (zEx.of (by decide +kernel)) () (fun _ => ⟨rfl, trivial⟩) rfl ⟨by decide, by decide⟩ ⟨by first | decide | (simp only [zRm]; omega), by first | decide | (simp only [zRm]; omega)⟩ (by first | decide | omega) (by first | decide | omega) dX0_items_27 dX0_items_30 dX0_items_31 dX0_items_34

set_option maxHeartbeats 4000000 in
theorem met_X0_items (l : Launch) (D : va_G) (B0 : Nat) (A : Nat → Prop) (o : Nat) (ad : Nat → Nat) (sa : Nat → Nat) (sb : Nat → Nat) (tr : Nat) (x : Nat → Int32) (sh : Nat → Nat) (rw : Nat → rT) (i : Nat) (jj : Nat) (mm : Nat) (a : Nat) (w9 : Nat) (n9 : Nat) (f9 : Nat → Int32) (hi : i < 8) (hrr : rw i = some (a, w9, n9, f9)) (hw9 : w9 ≤ 2) (hn9 : n9 ≤ 40) (hm12 : mm ≤ 12) (hlie : jj + mm ≤ n9) : Met l yX0_items (ws_ yX0_items cX0_items 7 (some (.array .int))) (zRm 3 1 12) (va_Pc [.ref o, .int (nI i), .int (nI jj), .int (nI mm)] (zPre B0 D A [cOb o ad (sa 0) (sb 0) tr x, [(ad 0, .inl (D.1 105, 8, .inr (.inr (.inr (.inr (rF sh 8))))))], slP D sh rw 8])) (zQ (S := Nat) (fun u => (fun (q : Nat) => True) u) (fun u => (fun (q : Nat) => some (.ref q)) u) (fun u => (fun (q : Nat) => [cOb o ad (sa 0) (sb 0) tr x, [(ad 0, .inl (D.1 105, 8, .inr (.inr (.inr (.inr (rF sh 8))))))], slP D sh rw 8, [(q, .inl (D.1 100, mm, .inl (fun k_ => f9 (jj + k_))))]]) u) D A) 1 12 A := by
  refine z_entry (by decide +kernel) (Nat.le_of_ble_eq_true rfl) (fun pX eX sX mX argsX blX mtX cX QX hQX gX hAX hnm => ?_)
  refine z_eq (lv₂ := [(0, .ref o), (1, .int (nI i)), (2, .int (nI jj)), (3, .int (nI mm))]) (st₂ := []) ?_ rfl rfl
  rcases (show w9 = 0 ∨ w9 = 1 ∨ w9 = 2 by omega) with rfl | rfl | rfl
  · skip
    refine z_ws [cOb o ad (sa 0) (sb 0) tr x, [(ad 0, .inl (D.1 105, 8, .inr (.inr (.inr (.inr (rF sh 8))))))], [(sh i, .inr (1, [.ref a]))], [(a, .inl (D.1 101, n9, .inl f9))], slR D sh rw i] (sg_perm [[(sh i, .inr (1, [.ref a]))], [(a, .inl (D.1 101, n9, .inl f9))], slR D sh rw i] 2 rfl rfl (sl_os (D := D) (sh := sh) (rw := rw) (i := i) (w := 0) (by omega) hrr)) ?_
    refine z_aload_n (pc := 0) gX 0 dX0_items_0 rfl rfl ?_
    refine z_get (pc := 1) gX (zI_ok gX hAX) (zm 0 rfl) (ci := 0) (C := RX0) (T := TX0) (N := 14) rfl in_X0 0 (by decide) q207 (fun _ h => h) (v := .ref (ad 0)) rfl dX0_items_1 ?_
    refine z_iload_n (pc := 4) gX 1 dX0_items_4 rfl rfl ?_
    refine z_ald (pc := 5) gX (zI_ok gX hAX) (j := i) (n := 8) (f := (rF sh 8)) (zm 1 rfl) 5 rfl (by omega) (by decide) (sh i) (rF_lt (by omega)) dX0_items_5 ?_
    refine z_cOVN (pc := 6) gX (zI_ok gX hAX) [] [] [2, 3] (met_X1_many_0 l D B0 (sh i) a n9 f9 hn9) (zm 9 rfl) q451 qs6 q48 hd_X1_many q452 (zm 2 rfl) (ci := 1) rfl ⟨rfl, rfl⟩ ⟨(Nat.le_of_ble_eq_true rfl), (Nat.le_of_ble_eq_true rfl)⟩ rfl rfl rfl (Nat.le_of_ble_eq_true rfl) ⟨(Nat.le_of_ble_eq_true rfl), (Nat.le_of_ble_eq_true rfl)⟩ dX0_items_6 ?_
    intro _ hu6
    refine z_eq (lv₂ := [(0, .ref o), (1, .int (nI i)), (2, .int (nI jj)), (3, .int (nI mm))]) (st₂ := [.int (nI n9)]) ?_ rfl rfl
    refine z_istore (pc := 9) gX [1, 2, 3, 4, 0] [(0, .ref o), (1, .int (nI i)), (2, .int (nI jj)), (3, .int (nI mm)), (4, .int (nI n9))] dX0_items_9 (by decide) rfl ?_
    refine z_iload_n (pc := 11) gX 2 dX0_items_11 rfl rfl ?_
    refine z_if_lt (pc := 12) gX 27 dX0_items_12 (by decide) (fun c12 => ?_) (fun c12 => ?_)
    · skip
      exact absurd c12 (nI_pos (by omega))
    · skip
      refine z_iload_n (pc := 15) gX 2 dX0_items_15 rfl rfl ?_
      refine z_i2l (pc := 16) gX dX0_items_16 ?_
      refine z_iload_n (pc := 17) gX 3 dX0_items_17 rfl rfl ?_
      refine z_i2l (pc := 18) gX dX0_items_18 ?_
      refine z_ladd (pc := 19) gX dX0_items_19 ?_
      refine z_iload (pc := 20) gX 4 dX0_items_20 rfl ?_
      refine z_i2l (pc := 22) gX dX0_items_22 ?_
      refine z_lcmp (pc := 23) gX dX0_items_23 ?_
      refine z_if_le (pc := 24) gX 35 dX0_items_24 (by decide) (fun c24 => ?_) (fun c24 => ?_)
      · skip
        refine z_iload_n (pc := 35) gX 3 dX0_items_35 rfl rfl ?_
        refine z_newa (pc := 36) gX hAX (atype := .int) (ty := .int) 0 rfl rfl (by intro C h; cases h) q190 (mm, .inl (fun _ => 0)) (fun _ => rfl) (by first | decide | omega | (simp only [componentBytes]; omega)) (by first | decide | omega | (simp only [componentBytes]; omega)) (by first | decide | (simp only [zRm]; omega)) (by first | decide | (simp only [zRm]; omega)) dX0_items_36 (fun q36 => ?_)
        refine z_norm [cOb o ad (sa 0) (sb 0) tr x, [(ad 0, .inl (D.1 105, 8, .inr (.inr (.inr (.inr (rF sh 8))))))], [(sh i, .inr (1, [.ref a]))], [(a, .inl (D.1 101, n9, .inl f9))], slR D sh rw i, [(q36, .inl (D.1 100, mm, .inl (fun _ => 0)))]] 1 mm ?_ rfl (by first | rfl | omega) (by first | rfl | omega)
        refine z_re [0, 1, 2, 3, 5, 4] [cOb o ad (sa 0) (sb 0) tr x, [(ad 0, .inl (D.1 105, 8, .inr (.inr (.inr (.inr (rF sh 8))))))], [(sh i, .inr (1, [.ref a]))], [(a, .inl (D.1 101, n9, .inl f9))], [(q36, .inl (D.1 100, mm, .inl (fun _ => 0)))], slR D sh rw i] rfl rfl ?_
        refine z_astore (pc := 38) gX [1, 2, 3, 4, 5, 0] [(0, .ref o), (1, .int (nI i)), (2, .int (nI jj)), (3, .int (nI mm)), (4, .int (nI n9)), (5, .ref q36)] dX0_items_38 (by decide) rfl ?_
        refine z_iconst (pc := 40) gX 0 dX0_items_40 (by decide) ?_
        refine z_istore (pc := 41) gX [1, 2, 3, 4, 5, 6, 0] [(0, .ref o), (1, .int (nI i)), (2, .int (nI jj)), (3, .int (nI mm)), (4, .int (nI n9)), (5, .ref q36), (6, .int 0)] dX0_items_41 (by decide) rfl ?_
        have L43 : ∀ (n43 : Nat) (k9 : Nat) (f2 : Nat → Int32), (k9 ≤ mm) → (∀ z, z < k9 → f2 z = f9 (jj + z)) → mm - k9 < n43 → zJ pX l eX (zRm 3 1 12) sX mX argsX blX mtX cX QX 7 (zI D A sX [cOb o ad (sa 0) (sb 0) tr x, [(ad 0, .inl (D.1 105, 8, .inr (.inr (.inr (.inr (rF sh 8))))))], [(sh i, .inr (1, [.ref a]))], [(a, .inl (D.1 101, n9, .inl f9))], [(q36, .inl (D.1 100, mm, .inl f2))], slR D sh rw i]) 1 mm 43 [(0, .ref o), (1, .int (nI i)), (2, .int (nI jj)), (3, .int (nI mm)), (4, .int (nI n9)), (5, .ref q36), (6, .int (nI k9))] [] := by
          intro n43
          induction n43 with
          | zero => exact fun k9 f2 hk hf hm43 => absurd hm43 (Nat.not_lt_zero _)
          | succ n43 ih43 =>
            intro k9 f2 hk hf hm43
            refine z_iload (pc := 43) gX 6 dX0_items_43 rfl ?_
            refine z_iload_n (pc := 45) gX 3 dX0_items_45 rfl rfl ?_
            refine z_icmp_ge (pc := 46) gX 73 dX0_items_46 (by decide) (fun c46 => ?_) (fun c46 => ?_)
            · skip
              have k46 : mm ≤ k9 := (zn_le (a := mm) (b := k9) (by omega) (by omega)).mp c46
              refine z_aload (pc := 73) gX 5 dX0_items_73 rfl ?_
              refine z_ext 4 (fun k_ => f9 (jj + k_)) rfl (fun z hz => hf z (by omega)) [cOb o ad (sa 0) (sb 0) tr x, [(ad 0, .inl (D.1 105, 8, .inr (.inr (.inr (.inr (rF sh 8))))))], [(sh i, .inr (1, [.ref a]))], [(a, .inl (D.1 101, n9, .inl f9))], [(q36, .inl (D.1 100, mm, .inl (fun k_ => f9 (jj + k_))))], slR D sh rw i] rfl ?_
              refine z_re [0, 1, 4, 2, 3, 5] [cOb o ad (sa 0) (sb 0) tr x, [(ad 0, .inl (D.1 105, 8, .inr (.inr (.inr (.inr (rF sh 8))))))], [(q36, .inl (D.1 100, mm, .inl (fun k_ => f9 (jj + k_))))], [(sh i, .inr (1, [.ref a]))], [(a, .inl (D.1 101, n9, .inl f9))], slR D sh rw i] rfl rfl ?_
              refine z_ws [cOb o ad (sa 0) (sb 0) tr x, [(ad 0, .inl (D.1 105, 8, .inr (.inr (.inr (.inr (rF sh 8))))))], [(q36, .inl (D.1 100, mm, .inl (fun k_ => f9 (jj + k_))))], slP D sh (setR rw i (some (a, 0, n9, f9))) 8] (gs_perm (slP D sh (setR rw i (some (a, 0, n9, f9))) 8) 3 3 rfl (sl_cs (D := D) (sh := sh) (rw := rw) (i := i) (a := a) (w := 0) (n := n9) (f := f9) (by omega))) ?_
              refine z_weq [cOb o ad (sa 0) (sb 0) tr x, [(ad 0, .inl (D.1 105, 8, .inr (.inr (.inr (.inr (rF sh 8))))))], [(q36, .inl (D.1 100, mm, .inl (fun k_ => f9 (jj + k_))))], slP D sh rw 8] (by rw [(show setR rw i (some (a, 0, n9, f9)) = rw by rw [← hrr]; exact setR_id)]) ?_
              refine z_re [0, 1, 3, 2] [cOb o ad (sa 0) (sb 0) tr x, [(ad 0, .inl (D.1 105, 8, .inr (.inr (.inr (.inr (rF sh 8))))))], slP D sh rw 8, [(q36, .inl (D.1 100, mm, .inl (fun k_ => f9 (jj + k_))))]] rfl rfl ?_
              exact z_aret gX hQX (by first | exact Or.inl ⟨_, rfl⟩ | exact Or.inr ⟨_, rfl⟩) (Or.inr ⟨_, rfl⟩) q36 trivial rfl rfl (by first | decide | omega) (by first | decide | omega) dX0_items_75
            · skip
              have k46 : k9 < mm := (zn_nle (a := mm) (b := k9) (by omega) (by omega)).mp c46
              refine z_aload (pc := 49) gX 5 dX0_items_49 rfl ?_
              refine z_iload (pc := 51) gX 6 dX0_items_51 rfl ?_
              refine z_aload_n (pc := 53) gX 0 dX0_items_53 rfl rfl ?_
              refine z_get (pc := 54) gX (zI_ok gX hAX) (zm 0 rfl) (ci := 0) (C := RX0) (T := TX0) (N := 14) rfl in_X0 0 (by decide) q207 (fun _ h => h) (v := .ref (ad 0)) rfl dX0_items_54 ?_
              refine z_iload_n (pc := 57) gX 1 dX0_items_57 rfl rfl ?_
              refine z_ald (pc := 58) gX (zI_ok gX hAX) (j := i) (n := 8) (f := (rF sh 8)) (zm 1 rfl) 5 rfl (by omega) (by decide) (sh i) (rF_lt (by omega)) dX0_items_58 ?_
              refine z_iload_n (pc := 59) gX 2 dX0_items_59 rfl rfl ?_
              refine z_iload (pc := 60) gX 6 dX0_items_60 rfl ?_
              refine z_iadd (pc := 62) gX dX0_items_62 ?_
              refine z_top (nI (jj + k9)) (nI_add jj k9) ?_
              refine z_cOVN (pc := 63) gX (zI_ok gX hAX) [.int (nI (jj + k9))] [.int (nI k9), .ref q36] [2, 3] (met_X1_at_0 l D B0 (sh i) a n9 f9 (jj + k9) hn9 (by omega)) (zm 15 rfl) q421 qs5 q48 hd_X1_at q422 (zm 2 rfl) (ci := 1) rfl ⟨rfl, rfl⟩ ⟨(Nat.le_of_ble_eq_true rfl), (Nat.le_of_ble_eq_true rfl)⟩ rfl rfl rfl (Nat.le_of_ble_eq_true rfl) ⟨(by first | decide | (simp only [zRm]; omega)), (by first | decide | (simp only [zRm]; omega))⟩ dX0_items_63 ?_
              intro _ hu63
              refine z_eq (lv₂ := [(0, .ref o), (1, .int (nI i)), (2, .int (nI jj)), (3, .int (nI mm)), (4, .int (nI n9)), (5, .ref q36), (6, .int (nI k9))]) (st₂ := [.int (f9 (jj + k9)), .int (nI k9), .ref q36]) ?_ rfl rfl
              refine z_iast (pc := 66) gX hAX 4 (j := k9) (n := mm) (f := f2) rfl (by omega) (by omega) [cOb o ad (sa 0) (sb 0) tr x, [(ad 0, .inl (D.1 105, 8, .inr (.inr (.inr (.inr (rF sh 8))))))], [(sh i, .inr (1, [.ref a]))], [(a, .inl (D.1 101, n9, .inl f9))], [(q36, .inl (D.1 100, mm, .inl (upd f2 k9 (f9 (jj + k9)))))], slR D sh rw i] rfl dX0_items_66 ?_
              refine z_iinc (pc := 67) gX 6 (nI (k9 + 1)) [1, 2, 3, 4, 5, 6, 0] [(0, .ref o), (1, .int (nI i)), (2, .int (nI jj)), (3, .int (nI mm)), (4, .int (nI n9)), (5, .ref q36), (6, .int (nI (k9 + 1)))] dX0_items_67 rfl (nI_1 _) (by decide) rfl ?_
              refine z_goto (pc := 70) gX 43 dX0_items_70 (by decide) ?_
              exact ih43 (k9 + 1) (upd f2 k9 (f9 (jj + k9))) (by omega) (fun z hz => by by_cases e : z = k9; rw [e, pk_us]; rw [pk_un e]; exact hf z (by omega)) (by omega)
        exact L43 ((mm - 0) + 1) 0 (fun _ => 0) (by omega) (fun z hz => absurd hz (Nat.not_lt_zero _)) (Nat.lt_succ_self _)
      · skip
        exact absurd ((it64 (by omega) hm12 hn9).mpr hlie) c24
  · skip
    refine z_ws [cOb o ad (sa 0) (sb 0) tr x, [(ad 0, .inl (D.1 105, 8, .inr (.inr (.inr (.inr (rF sh 8))))))], [(sh i, .inr (1, [.ref a]))], [(a, .inl (D.1 102, n9, .inl f9))], slR D sh rw i] (sg_perm [[(sh i, .inr (1, [.ref a]))], [(a, .inl (D.1 102, n9, .inl f9))], slR D sh rw i] 2 rfl rfl (sl_os (D := D) (sh := sh) (rw := rw) (i := i) (w := 1) (by omega) hrr)) ?_
    refine z_aload_n (pc := 0) gX 0 dX0_items_0 rfl rfl ?_
    refine z_get (pc := 1) gX (zI_ok gX hAX) (zm 0 rfl) (ci := 0) (C := RX0) (T := TX0) (N := 14) rfl in_X0 0 (by decide) q207 (fun _ h => h) (v := .ref (ad 0)) rfl dX0_items_1 ?_
    refine z_iload_n (pc := 4) gX 1 dX0_items_4 rfl rfl ?_
    refine z_ald (pc := 5) gX (zI_ok gX hAX) (j := i) (n := 8) (f := (rF sh 8)) (zm 1 rfl) 5 rfl (by omega) (by decide) (sh i) (rF_lt (by omega)) dX0_items_5 ?_
    refine z_cOVN (pc := 6) gX (zI_ok gX hAX) [] [] [2, 3] (met_X1_many_1 l D B0 (sh i) a n9 f9 hn9) (zm 9 rfl) q451 qs6 q48 hd_X1_many q452 (zm 2 rfl) (ci := 1) rfl ⟨rfl, rfl⟩ ⟨(Nat.le_of_ble_eq_true rfl), (Nat.le_of_ble_eq_true rfl)⟩ rfl rfl rfl (Nat.le_of_ble_eq_true rfl) ⟨(Nat.le_of_ble_eq_true rfl), (Nat.le_of_ble_eq_true rfl)⟩ dX0_items_6 ?_
    intro _ hu6
    refine z_eq (lv₂ := [(0, .ref o), (1, .int (nI i)), (2, .int (nI jj)), (3, .int (nI mm))]) (st₂ := [.int (nI n9)]) ?_ rfl rfl
    refine z_istore (pc := 9) gX [1, 2, 3, 4, 0] [(0, .ref o), (1, .int (nI i)), (2, .int (nI jj)), (3, .int (nI mm)), (4, .int (nI n9))] dX0_items_9 (by decide) rfl ?_
    refine z_iload_n (pc := 11) gX 2 dX0_items_11 rfl rfl ?_
    refine z_if_lt (pc := 12) gX 27 dX0_items_12 (by decide) (fun c12 => ?_) (fun c12 => ?_)
    · skip
      exact absurd c12 (nI_pos (by omega))
    · skip
      refine z_iload_n (pc := 15) gX 2 dX0_items_15 rfl rfl ?_
      refine z_i2l (pc := 16) gX dX0_items_16 ?_
      refine z_iload_n (pc := 17) gX 3 dX0_items_17 rfl rfl ?_
      refine z_i2l (pc := 18) gX dX0_items_18 ?_
      refine z_ladd (pc := 19) gX dX0_items_19 ?_
      refine z_iload (pc := 20) gX 4 dX0_items_20 rfl ?_
      refine z_i2l (pc := 22) gX dX0_items_22 ?_
      refine z_lcmp (pc := 23) gX dX0_items_23 ?_
      refine z_if_le (pc := 24) gX 35 dX0_items_24 (by decide) (fun c24 => ?_) (fun c24 => ?_)
      · skip
        refine z_iload_n (pc := 35) gX 3 dX0_items_35 rfl rfl ?_
        refine z_newa (pc := 36) gX hAX (atype := .int) (ty := .int) 0 rfl rfl (by intro C h; cases h) q190 (mm, .inl (fun _ => 0)) (fun _ => rfl) (by first | decide | omega | (simp only [componentBytes]; omega)) (by first | decide | omega | (simp only [componentBytes]; omega)) (by first | decide | (simp only [zRm]; omega)) (by first | decide | (simp only [zRm]; omega)) dX0_items_36 (fun q36 => ?_)
        refine z_norm [cOb o ad (sa 0) (sb 0) tr x, [(ad 0, .inl (D.1 105, 8, .inr (.inr (.inr (.inr (rF sh 8))))))], [(sh i, .inr (1, [.ref a]))], [(a, .inl (D.1 102, n9, .inl f9))], slR D sh rw i, [(q36, .inl (D.1 100, mm, .inl (fun _ => 0)))]] 1 mm ?_ rfl (by first | rfl | omega) (by first | rfl | omega)
        refine z_re [0, 1, 2, 3, 5, 4] [cOb o ad (sa 0) (sb 0) tr x, [(ad 0, .inl (D.1 105, 8, .inr (.inr (.inr (.inr (rF sh 8))))))], [(sh i, .inr (1, [.ref a]))], [(a, .inl (D.1 102, n9, .inl f9))], [(q36, .inl (D.1 100, mm, .inl (fun _ => 0)))], slR D sh rw i] rfl rfl ?_
        refine z_astore (pc := 38) gX [1, 2, 3, 4, 5, 0] [(0, .ref o), (1, .int (nI i)), (2, .int (nI jj)), (3, .int (nI mm)), (4, .int (nI n9)), (5, .ref q36)] dX0_items_38 (by decide) rfl ?_
        refine z_iconst (pc := 40) gX 0 dX0_items_40 (by decide) ?_
        refine z_istore (pc := 41) gX [1, 2, 3, 4, 5, 6, 0] [(0, .ref o), (1, .int (nI i)), (2, .int (nI jj)), (3, .int (nI mm)), (4, .int (nI n9)), (5, .ref q36), (6, .int 0)] dX0_items_41 (by decide) rfl ?_
        have L43 : ∀ (n43 : Nat) (k9 : Nat) (f2 : Nat → Int32), (k9 ≤ mm) → (∀ z, z < k9 → f2 z = f9 (jj + z)) → mm - k9 < n43 → zJ pX l eX (zRm 3 1 12) sX mX argsX blX mtX cX QX 7 (zI D A sX [cOb o ad (sa 0) (sb 0) tr x, [(ad 0, .inl (D.1 105, 8, .inr (.inr (.inr (.inr (rF sh 8))))))], [(sh i, .inr (1, [.ref a]))], [(a, .inl (D.1 102, n9, .inl f9))], [(q36, .inl (D.1 100, mm, .inl f2))], slR D sh rw i]) 1 mm 43 [(0, .ref o), (1, .int (nI i)), (2, .int (nI jj)), (3, .int (nI mm)), (4, .int (nI n9)), (5, .ref q36), (6, .int (nI k9))] [] := by
          intro n43
          induction n43 with
          | zero => exact fun k9 f2 hk hf hm43 => absurd hm43 (Nat.not_lt_zero _)
          | succ n43 ih43 =>
            intro k9 f2 hk hf hm43
            refine z_iload (pc := 43) gX 6 dX0_items_43 rfl ?_
            refine z_iload_n (pc := 45) gX 3 dX0_items_45 rfl rfl ?_
            refine z_icmp_ge (pc := 46) gX 73 dX0_items_46 (by decide) (fun c46 => ?_) (fun c46 => ?_)
            · skip
              have k46 : mm ≤ k9 := (zn_le (a := mm) (b := k9) (by omega) (by omega)).mp c46
              refine z_aload (pc := 73) gX 5 dX0_items_73 rfl ?_
              refine z_ext 4 (fun k_ => f9 (jj + k_)) rfl (fun z hz => hf z (by omega)) [cOb o ad (sa 0) (sb 0) tr x, [(ad 0, .inl (D.1 105, 8, .inr (.inr (.inr (.inr (rF sh 8))))))], [(sh i, .inr (1, [.ref a]))], [(a, .inl (D.1 102, n9, .inl f9))], [(q36, .inl (D.1 100, mm, .inl (fun k_ => f9 (jj + k_))))], slR D sh rw i] rfl ?_
              refine z_re [0, 1, 4, 2, 3, 5] [cOb o ad (sa 0) (sb 0) tr x, [(ad 0, .inl (D.1 105, 8, .inr (.inr (.inr (.inr (rF sh 8))))))], [(q36, .inl (D.1 100, mm, .inl (fun k_ => f9 (jj + k_))))], [(sh i, .inr (1, [.ref a]))], [(a, .inl (D.1 102, n9, .inl f9))], slR D sh rw i] rfl rfl ?_
              refine z_ws [cOb o ad (sa 0) (sb 0) tr x, [(ad 0, .inl (D.1 105, 8, .inr (.inr (.inr (.inr (rF sh 8))))))], [(q36, .inl (D.1 100, mm, .inl (fun k_ => f9 (jj + k_))))], slP D sh (setR rw i (some (a, 1, n9, f9))) 8] (gs_perm (slP D sh (setR rw i (some (a, 1, n9, f9))) 8) 3 3 rfl (sl_cs (D := D) (sh := sh) (rw := rw) (i := i) (a := a) (w := 1) (n := n9) (f := f9) (by omega))) ?_
              refine z_weq [cOb o ad (sa 0) (sb 0) tr x, [(ad 0, .inl (D.1 105, 8, .inr (.inr (.inr (.inr (rF sh 8))))))], [(q36, .inl (D.1 100, mm, .inl (fun k_ => f9 (jj + k_))))], slP D sh rw 8] (by rw [(show setR rw i (some (a, 1, n9, f9)) = rw by rw [← hrr]; exact setR_id)]) ?_
              refine z_re [0, 1, 3, 2] [cOb o ad (sa 0) (sb 0) tr x, [(ad 0, .inl (D.1 105, 8, .inr (.inr (.inr (.inr (rF sh 8))))))], slP D sh rw 8, [(q36, .inl (D.1 100, mm, .inl (fun k_ => f9 (jj + k_))))]] rfl rfl ?_
              exact z_aret gX hQX (by first | exact Or.inl ⟨_, rfl⟩ | exact Or.inr ⟨_, rfl⟩) (Or.inr ⟨_, rfl⟩) q36 trivial rfl rfl (by first | decide | omega) (by first | decide | omega) dX0_items_75
            · skip
              have k46 : k9 < mm := (zn_nle (a := mm) (b := k9) (by omega) (by omega)).mp c46
              refine z_aload (pc := 49) gX 5 dX0_items_49 rfl ?_
              refine z_iload (pc := 51) gX 6 dX0_items_51 rfl ?_
              refine z_aload_n (pc := 53) gX 0 dX0_items_53 rfl rfl ?_
              refine z_get (pc := 54) gX (zI_ok gX hAX) (zm 0 rfl) (ci := 0) (C := RX0) (T := TX0) (N := 14) rfl in_X0 0 (by decide) q207 (fun _ h => h) (v := .ref (ad 0)) rfl dX0_items_54 ?_
              refine z_iload_n (pc := 57) gX 1 dX0_items_57 rfl rfl ?_
              refine z_ald (pc := 58) gX (zI_ok gX hAX) (j := i) (n := 8) (f := (rF sh 8)) (zm 1 rfl) 5 rfl (by omega) (by decide) (sh i) (rF_lt (by omega)) dX0_items_58 ?_
              refine z_iload_n (pc := 59) gX 2 dX0_items_59 rfl rfl ?_
              refine z_iload (pc := 60) gX 6 dX0_items_60 rfl ?_
              refine z_iadd (pc := 62) gX dX0_items_62 ?_
              refine z_top (nI (jj + k9)) (nI_add jj k9) ?_
              refine z_cOVN (pc := 63) gX (zI_ok gX hAX) [.int (nI (jj + k9))] [.int (nI k9), .ref q36] [2, 3] (met_X1_at_1 l D B0 (sh i) a n9 f9 (jj + k9) hn9 (by omega)) (zm 15 rfl) q421 qs5 q48 hd_X1_at q422 (zm 2 rfl) (ci := 1) rfl ⟨rfl, rfl⟩ ⟨(Nat.le_of_ble_eq_true rfl), (Nat.le_of_ble_eq_true rfl)⟩ rfl rfl rfl (Nat.le_of_ble_eq_true rfl) ⟨(by first | decide | (simp only [zRm]; omega)), (by first | decide | (simp only [zRm]; omega))⟩ dX0_items_63 ?_
              intro _ hu63
              refine z_eq (lv₂ := [(0, .ref o), (1, .int (nI i)), (2, .int (nI jj)), (3, .int (nI mm)), (4, .int (nI n9)), (5, .ref q36), (6, .int (nI k9))]) (st₂ := [.int (f9 (jj + k9)), .int (nI k9), .ref q36]) ?_ rfl rfl
              refine z_iast (pc := 66) gX hAX 4 (j := k9) (n := mm) (f := f2) rfl (by omega) (by omega) [cOb o ad (sa 0) (sb 0) tr x, [(ad 0, .inl (D.1 105, 8, .inr (.inr (.inr (.inr (rF sh 8))))))], [(sh i, .inr (1, [.ref a]))], [(a, .inl (D.1 102, n9, .inl f9))], [(q36, .inl (D.1 100, mm, .inl (upd f2 k9 (f9 (jj + k9)))))], slR D sh rw i] rfl dX0_items_66 ?_
              refine z_iinc (pc := 67) gX 6 (nI (k9 + 1)) [1, 2, 3, 4, 5, 6, 0] [(0, .ref o), (1, .int (nI i)), (2, .int (nI jj)), (3, .int (nI mm)), (4, .int (nI n9)), (5, .ref q36), (6, .int (nI (k9 + 1)))] dX0_items_67 rfl (nI_1 _) (by decide) rfl ?_
              refine z_goto (pc := 70) gX 43 dX0_items_70 (by decide) ?_
              exact ih43 (k9 + 1) (upd f2 k9 (f9 (jj + k9))) (by omega) (fun z hz => by by_cases e : z = k9; rw [e, pk_us]; rw [pk_un e]; exact hf z (by omega)) (by omega)
        exact L43 ((mm - 0) + 1) 0 (fun _ => 0) (by omega) (fun z hz => absurd hz (Nat.not_lt_zero _)) (Nat.lt_succ_self _)
      · skip
        exact absurd ((it64 (by omega) hm12 hn9).mpr hlie) c24
  · skip
    refine z_ws [cOb o ad (sa 0) (sb 0) tr x, [(ad 0, .inl (D.1 105, 8, .inr (.inr (.inr (.inr (rF sh 8))))))], [(sh i, .inr (1, [.ref a]))], [(a, .inl (D.1 100, n9, .inl f9))], slR D sh rw i] (sg_perm [[(sh i, .inr (1, [.ref a]))], [(a, .inl (D.1 100, n9, .inl f9))], slR D sh rw i] 2 rfl rfl (sl_os (D := D) (sh := sh) (rw := rw) (i := i) (w := 2) (by omega) hrr)) ?_
    refine z_aload_n (pc := 0) gX 0 dX0_items_0 rfl rfl ?_
    refine z_get (pc := 1) gX (zI_ok gX hAX) (zm 0 rfl) (ci := 0) (C := RX0) (T := TX0) (N := 14) rfl in_X0 0 (by decide) q207 (fun _ h => h) (v := .ref (ad 0)) rfl dX0_items_1 ?_
    refine z_iload_n (pc := 4) gX 1 dX0_items_4 rfl rfl ?_
    refine z_ald (pc := 5) gX (zI_ok gX hAX) (j := i) (n := 8) (f := (rF sh 8)) (zm 1 rfl) 5 rfl (by omega) (by decide) (sh i) (rF_lt (by omega)) dX0_items_5 ?_
    refine z_cOVN (pc := 6) gX (zI_ok gX hAX) [] [] [2, 3] (met_X1_many_2 l D B0 (sh i) a n9 f9 hn9) (zm 9 rfl) q451 qs6 q48 hd_X1_many q452 (zm 2 rfl) (ci := 1) rfl ⟨rfl, rfl⟩ ⟨(Nat.le_of_ble_eq_true rfl), (Nat.le_of_ble_eq_true rfl)⟩ rfl rfl rfl (Nat.le_of_ble_eq_true rfl) ⟨(Nat.le_of_ble_eq_true rfl), (Nat.le_of_ble_eq_true rfl)⟩ dX0_items_6 ?_
    intro _ hu6
    refine z_eq (lv₂ := [(0, .ref o), (1, .int (nI i)), (2, .int (nI jj)), (3, .int (nI mm))]) (st₂ := [.int (nI n9)]) ?_ rfl rfl
    refine z_istore (pc := 9) gX [1, 2, 3, 4, 0] [(0, .ref o), (1, .int (nI i)), (2, .int (nI jj)), (3, .int (nI mm)), (4, .int (nI n9))] dX0_items_9 (by decide) rfl ?_
    refine z_iload_n (pc := 11) gX 2 dX0_items_11 rfl rfl ?_
    refine z_if_lt (pc := 12) gX 27 dX0_items_12 (by decide) (fun c12 => ?_) (fun c12 => ?_)
    · skip
      exact absurd c12 (nI_pos (by omega))
    · skip
      refine z_iload_n (pc := 15) gX 2 dX0_items_15 rfl rfl ?_
      refine z_i2l (pc := 16) gX dX0_items_16 ?_
      refine z_iload_n (pc := 17) gX 3 dX0_items_17 rfl rfl ?_
      refine z_i2l (pc := 18) gX dX0_items_18 ?_
      refine z_ladd (pc := 19) gX dX0_items_19 ?_
      refine z_iload (pc := 20) gX 4 dX0_items_20 rfl ?_
      refine z_i2l (pc := 22) gX dX0_items_22 ?_
      refine z_lcmp (pc := 23) gX dX0_items_23 ?_
      refine z_if_le (pc := 24) gX 35 dX0_items_24 (by decide) (fun c24 => ?_) (fun c24 => ?_)
      · skip
        refine z_iload_n (pc := 35) gX 3 dX0_items_35 rfl rfl ?_
        refine z_newa (pc := 36) gX hAX (atype := .int) (ty := .int) 0 rfl rfl (by intro C h; cases h) q190 (mm, .inl (fun _ => 0)) (fun _ => rfl) (by first | decide | omega | (simp only [componentBytes]; omega)) (by first | decide | omega | (simp only [componentBytes]; omega)) (by first | decide | (simp only [zRm]; omega)) (by first | decide | (simp only [zRm]; omega)) dX0_items_36 (fun q36 => ?_)
        refine z_norm [cOb o ad (sa 0) (sb 0) tr x, [(ad 0, .inl (D.1 105, 8, .inr (.inr (.inr (.inr (rF sh 8))))))], [(sh i, .inr (1, [.ref a]))], [(a, .inl (D.1 100, n9, .inl f9))], slR D sh rw i, [(q36, .inl (D.1 100, mm, .inl (fun _ => 0)))]] 1 mm ?_ rfl (by first | rfl | omega) (by first | rfl | omega)
        refine z_re [0, 1, 2, 3, 5, 4] [cOb o ad (sa 0) (sb 0) tr x, [(ad 0, .inl (D.1 105, 8, .inr (.inr (.inr (.inr (rF sh 8))))))], [(sh i, .inr (1, [.ref a]))], [(a, .inl (D.1 100, n9, .inl f9))], [(q36, .inl (D.1 100, mm, .inl (fun _ => 0)))], slR D sh rw i] rfl rfl ?_
        refine z_astore (pc := 38) gX [1, 2, 3, 4, 5, 0] [(0, .ref o), (1, .int (nI i)), (2, .int (nI jj)), (3, .int (nI mm)), (4, .int (nI n9)), (5, .ref q36)] dX0_items_38 (by decide) rfl ?_
        refine z_iconst (pc := 40) gX 0 dX0_items_40 (by decide) ?_
        refine z_istore (pc := 41) gX [1, 2, 3, 4, 5, 6, 0] [(0, .ref o), (1, .int (nI i)), (2, .int (nI jj)), (3, .int (nI mm)), (4, .int (nI n9)), (5, .ref q36), (6, .int 0)] dX0_items_41 (by decide) rfl ?_
        have L43 : ∀ (n43 : Nat) (k9 : Nat) (f2 : Nat → Int32), (k9 ≤ mm) → (∀ z, z < k9 → f2 z = f9 (jj + z)) → mm - k9 < n43 → zJ pX l eX (zRm 3 1 12) sX mX argsX blX mtX cX QX 7 (zI D A sX [cOb o ad (sa 0) (sb 0) tr x, [(ad 0, .inl (D.1 105, 8, .inr (.inr (.inr (.inr (rF sh 8))))))], [(sh i, .inr (1, [.ref a]))], [(a, .inl (D.1 100, n9, .inl f9))], [(q36, .inl (D.1 100, mm, .inl f2))], slR D sh rw i]) 1 mm 43 [(0, .ref o), (1, .int (nI i)), (2, .int (nI jj)), (3, .int (nI mm)), (4, .int (nI n9)), (5, .ref q36), (6, .int (nI k9))] [] := by
          intro n43
          induction n43 with
          | zero => exact fun k9 f2 hk hf hm43 => absurd hm43 (Nat.not_lt_zero _)
          | succ n43 ih43 =>
            intro k9 f2 hk hf hm43
            refine z_iload (pc := 43) gX 6 dX0_items_43 rfl ?_
            refine z_iload_n (pc := 45) gX 3 dX0_items_45 rfl rfl ?_
            refine z_icmp_ge (pc := 46) gX 73 dX0_items_46 (by decide) (fun c46 => ?_) (fun c46 => ?_)
            · skip
              have k46 : mm ≤ k9 := (zn_le (a := mm) (b := k9) (by omega) (by omega)).mp c46
              refine z_aload (pc := 73) gX 5 dX0_items_73 rfl ?_
              refine z_ext 4 (fun k_ => f9 (jj + k_)) rfl (fun z hz => hf z (by omega)) [cOb o ad (sa 0) (sb 0) tr x, [(ad 0, .inl (D.1 105, 8, .inr (.inr (.inr (.inr (rF sh 8))))))], [(sh i, .inr (1, [.ref a]))], [(a, .inl (D.1 100, n9, .inl f9))], [(q36, .inl (D.1 100, mm, .inl (fun k_ => f9 (jj + k_))))], slR D sh rw i] rfl ?_
              refine z_re [0, 1, 4, 2, 3, 5] [cOb o ad (sa 0) (sb 0) tr x, [(ad 0, .inl (D.1 105, 8, .inr (.inr (.inr (.inr (rF sh 8))))))], [(q36, .inl (D.1 100, mm, .inl (fun k_ => f9 (jj + k_))))], [(sh i, .inr (1, [.ref a]))], [(a, .inl (D.1 100, n9, .inl f9))], slR D sh rw i] rfl rfl ?_
              refine z_ws [cOb o ad (sa 0) (sb 0) tr x, [(ad 0, .inl (D.1 105, 8, .inr (.inr (.inr (.inr (rF sh 8))))))], [(q36, .inl (D.1 100, mm, .inl (fun k_ => f9 (jj + k_))))], slP D sh (setR rw i (some (a, 2, n9, f9))) 8] (gs_perm (slP D sh (setR rw i (some (a, 2, n9, f9))) 8) 3 3 rfl (sl_cs (D := D) (sh := sh) (rw := rw) (i := i) (a := a) (w := 2) (n := n9) (f := f9) (by omega))) ?_
              refine z_weq [cOb o ad (sa 0) (sb 0) tr x, [(ad 0, .inl (D.1 105, 8, .inr (.inr (.inr (.inr (rF sh 8))))))], [(q36, .inl (D.1 100, mm, .inl (fun k_ => f9 (jj + k_))))], slP D sh rw 8] (by rw [(show setR rw i (some (a, 2, n9, f9)) = rw by rw [← hrr]; exact setR_id)]) ?_
              refine z_re [0, 1, 3, 2] [cOb o ad (sa 0) (sb 0) tr x, [(ad 0, .inl (D.1 105, 8, .inr (.inr (.inr (.inr (rF sh 8))))))], slP D sh rw 8, [(q36, .inl (D.1 100, mm, .inl (fun k_ => f9 (jj + k_))))]] rfl rfl ?_
              exact z_aret gX hQX (by first | exact Or.inl ⟨_, rfl⟩ | exact Or.inr ⟨_, rfl⟩) (Or.inr ⟨_, rfl⟩) q36 trivial rfl rfl (by first | decide | omega) (by first | decide | omega) dX0_items_75
            · skip
              have k46 : k9 < mm := (zn_nle (a := mm) (b := k9) (by omega) (by omega)).mp c46
              refine z_aload (pc := 49) gX 5 dX0_items_49 rfl ?_
              refine z_iload (pc := 51) gX 6 dX0_items_51 rfl ?_
              refine z_aload_n (pc := 53) gX 0 dX0_items_53 rfl rfl ?_
              refine z_get (pc := 54) gX (zI_ok gX hAX) (zm 0 rfl) (ci := 0) (C := RX0) (T := TX0) (N := 14) rfl in_X0 0 (by decide) q207 (fun _ h => h) (v := .ref (ad 0)) rfl dX0_items_54 ?_
              refine z_iload_n (pc := 57) gX 1 dX0_items_57 rfl rfl ?_
              refine z_ald (pc := 58) gX (zI_ok gX hAX) (j := i) (n := 8) (f := (rF sh 8)) (zm 1 rfl) 5 rfl (by omega) (by decide) (sh i) (rF_lt (by omega)) dX0_items_58 ?_
              refine z_iload_n (pc := 59) gX 2 dX0_items_59 rfl rfl ?_
              refine z_iload (pc := 60) gX 6 dX0_items_60 rfl ?_
              refine z_iadd (pc := 62) gX dX0_items_62 ?_
              refine z_top (nI (jj + k9)) (nI_add jj k9) ?_
              refine z_cOVN (pc := 63) gX (zI_ok gX hAX) [.int (nI (jj + k9))] [.int (nI k9), .ref q36] [2, 3] (met_X1_at_2 l D B0 (sh i) a n9 f9 (jj + k9) hn9 (by omega)) (zm 15 rfl) q421 qs5 q48 hd_X1_at q422 (zm 2 rfl) (ci := 1) rfl ⟨rfl, rfl⟩ ⟨(Nat.le_of_ble_eq_true rfl), (Nat.le_of_ble_eq_true rfl)⟩ rfl rfl rfl (Nat.le_of_ble_eq_true rfl) ⟨(by first | decide | (simp only [zRm]; omega)), (by first | decide | (simp only [zRm]; omega))⟩ dX0_items_63 ?_
              intro _ hu63
              refine z_eq (lv₂ := [(0, .ref o), (1, .int (nI i)), (2, .int (nI jj)), (3, .int (nI mm)), (4, .int (nI n9)), (5, .ref q36), (6, .int (nI k9))]) (st₂ := [.int (f9 (jj + k9)), .int (nI k9), .ref q36]) ?_ rfl rfl
              refine z_iast (pc := 66) gX hAX 4 (j := k9) (n := mm) (f := f2) rfl (by omega) (by omega) [cOb o ad (sa 0) (sb 0) tr x, [(ad 0, .inl (D.1 105, 8, .inr (.inr (.inr (.inr (rF sh 8))))))], [(sh i, .inr (1, [.ref a]))], [(a, .inl (D.1 100, n9, .inl f9))], [(q36, .inl (D.1 100, mm, .inl (upd f2 k9 (f9 (jj + k9)))))], slR D sh rw i] rfl dX0_items_66 ?_
              refine z_iinc (pc := 67) gX 6 (nI (k9 + 1)) [1, 2, 3, 4, 5, 6, 0] [(0, .ref o), (1, .int (nI i)), (2, .int (nI jj)), (3, .int (nI mm)), (4, .int (nI n9)), (5, .ref q36), (6, .int (nI (k9 + 1)))] dX0_items_67 rfl (nI_1 _) (by decide) rfl ?_
              refine z_goto (pc := 70) gX 43 dX0_items_70 (by decide) ?_
              exact ih43 (k9 + 1) (upd f2 k9 (f9 (jj + k9))) (by omega) (fun z hz => by by_cases e : z = k9; rw [e, pk_us]; rw [pk_un e]; exact hf z (by omega)) (by omega)
        exact L43 ((mm - 0) + 1) 0 (fun _ => 0) (by omega) (fun z hz => absurd hz (Nat.not_lt_zero _)) (Nat.lt_succ_self _)
      · skip
        exact absurd ((it64 (by omega) hm12 hn9).mpr hlie) c24

set_option maxHeartbeats 4000000 in
theorem met_X18_lowU (l : Launch) (D : va_G) (B0 : Nat) (q : Nat)  : vd_Met l yX18_low (ws_ yX18_low cX18_low 1 (some .int)) (zRm 1 0 0) (va_Pc [.ref q] (zPreO B0 D [])) (zQo (S := Unit) (fun _ => True) (fun _ => some (.int 0))) 0 0 (fun _ => False) := by
  refine z_entryUo (by decide +kernel) (Nat.le_of_ble_eq_true rfl) (fun pX eX sX mX argsX blX mtX cX QX hQX gX => ?_)
  refine z_eq (lv₂ := [(0, .ref q)]) (st₂ := []) ?_ rfl rfl
  refine z_iconst (pc := 0) gX 0 dX18_low_0 (by decide) ?_
  exact z_rio gX hQX rfl dX18_low_1

set_option maxHeartbeats 4000000 in
theorem met_X13_low (l : Launch) (D : va_G) (B0 : Nat) (q : Nat) (j : Nat)  : Met l yX13_low (ws_ yX13_low cX13_low 1 (some .int)) (zRm 3 0 0) (va_Pc [.ref q] (zPreO B0 D [[(q, .inr (12, [.int (nI j)]))]])) (zQo (S := Unit) (fun _ => True) (fun _ => some (.int 1))) 0 0 (fun _ => False) := by
  refine z_entryo (by decide +kernel) (Nat.le_of_ble_eq_true rfl) (fun pX eX sX mX argsX blX mtX cX QX hQX gX => ?_)
  refine z_eq (lv₂ := [(0, .ref q)]) (st₂ := []) ?_ rfl rfl
  refine z_aload_n (pc := 0) gX 0 dX13_low_0 rfl rfl ?_
  refine z_cOSF (pc := 1) gX (zIo_ok gX) [] [] [] (met_X18_lowU l D B0 q ) q1116 (gX.zk.ifm (C := yX18_low) (cl := "StepRiders$Sorts") ⟨by decide +kernel, by decide +kernel⟩ q1104 q1103 q1108 q1112 q1110) q1054 q1107 (by decide +kernel) hd_X18_low q1109 (zm 0 rfl) (ci := 12) rfl ⟨rfl, rfl⟩ ⟨(Nat.le_of_ble_eq_true rfl), (Nat.le_of_ble_eq_true rfl)⟩ rfl rfl rfl (Nat.le_of_ble_eq_true rfl) ⟨(Nat.le_of_ble_eq_true rfl), (Nat.le_of_ble_eq_true rfl)⟩ dX13_low_1 ?_
  intro _ hu1
  refine z_eq (lv₂ := [(0, .ref q)]) (st₂ := [.int 0]) ?_ rfl rfl
  refine z_iconst (pc := 4) gX 1 dX13_low_4 (by decide) ?_
  refine z_iadd (pc := 5) gX dX13_low_5 ?_
  exact z_rio gX hQX rfl dX13_low_6
theorem hd_X13_low : zHd yX13_low 0 := by unfold zHd; decide +kernel

set_option maxHeartbeats 4000000 in
theorem met_X0_fitting_0 (l : Launch) (D : va_G) (B0 : Nat) (A : Nat → Prop) (o : Nat) (ad : Nat → Nat) (sa : Nat → Nat) (sb : Nat → Nat) (tr : Nat) (x : Nat → Int32) (wn : Int32) (md : Int32) (d : Nat) (n : Nat) (c : Nat → Int32) (od : Nat → Int32) (ra : Nat → Nat) (T : va_W) (k : Nat) (ht : sT) (q : Nat) (ta : Nat) (mm : Nat) (tf : Nat → Int32) (j : Nat) (hG : gOK T n k ra c) (ht0 : tOK ht) (hj : j < n) (hm12 : mm ≤ 12) : Met l yX0_fitting (ws_ yX0_fitting cX0_fitting 6 (some .int)) (zRm 12 24 132) (va_Pc [.ref o, .ref q, .int (nI j), .ref ta] (zPre B0 D A [[(q, .inr (12, [.int (nI j)]))], cOb o ad (sa 0) (sb 0) tr x, [(sa 0, .inr (2, [.int (c 16), .int (c 1), .int (c 0), .int wn, .ref (sa 1), .ref (sa 2), .ref (sa 3), .ref (sa 4)]))], [(sa 1, .inr (16, [.int md, .ref d, .int (nI n)]))], [(sa 2, .inl (D.1 100, 7, .inl (fun i_ => c (9 + i_))))], [(sa 3, .inl (D.1 100, 7, .inl (fun i_ => c (2 + i_))))], [(sa 4, .inl (D.1 100, 7, .inl od))], [(d, .inl (D.1 104, 10, .inr (.inr (.inr (.inr (rF ra n))))))], [(ta, .inl (D.1 100, mm, .inl tf))], thP D sb ht, T])) (zQ (S := sT × va_W) (fun u => (fun (ht1 : sT) (T1 : va_W) => tOK ht1 ∧ (∀ z ∈ T, z ∈ T1)) u.1 u.2) (fun u => (fun (ht1 : sT) (T1 : va_W) => some (.int (ftS 0 n k c j tf 0 mm))) u.1 u.2) (fun u => (fun (ht1 : sT) (T1 : va_W) => [[(q, .inr (12, [.int (nI j)]))], cOb o ad (sa 0) (sb 0) tr x, [(sa 0, .inr (2, [.int (c 16), .int (c 1), .int (c 0), .int wn, .ref (sa 1), .ref (sa 2), .ref (sa 3), .ref (sa 4)]))], [(sa 1, .inr (16, [.int md, .ref d, .int (nI n)]))], [(sa 2, .inl (D.1 100, 7, .inl (fun i_ => c (9 + i_))))], [(sa 3, .inl (D.1 100, 7, .inl (fun i_ => c (2 + i_))))], [(sa 4, .inl (D.1 100, 7, .inl od))], [(d, .inl (D.1 104, 10, .inr (.inr (.inr (.inr (rF ra n))))))], [(ta, .inl (D.1 100, mm, .inl tf))], thP D sb ht1, T1]) u.1 u.2) D A) 24 132 A := by
  refine z_entry (by decide +kernel) (Nat.le_of_ble_eq_true rfl) (fun pX eX sX mX argsX blX mtX cX QX hQX gX hAX hnm => ?_)
  refine z_eq (lv₂ := [(0, .ref o), (1, .ref q), (2, .int (nI j)), (3, .ref ta)]) (st₂ := []) ?_ rfl rfl
  have hn7 := hG.2.1
  have hk12 := hG.2.2.2.2.2.1
  have hk4 := hG.2.2.2.2.1
  refine z_iconst (pc := 0) gX 0 dX0_fitting_0 (by decide) ?_
  refine z_istore (pc := 1) gX [1, 2, 3, 4, 0] [(0, .ref o), (1, .ref q), (2, .int (nI j)), (3, .ref ta), (4, .int 0)] dX0_fitting_1 (by decide) rfl ?_
  refine z_aload_n (pc := 3) gX 1 dX0_fitting_3 rfl rfl ?_
  refine z_cOF (n := 0) (pc := 4) gX (zI_ok gX hAX) [] [] [0] (met_X13_low l D B0 q j ) q1102 q1113 q1111 q82 (gX.zk.face ⟨by decide +kernel, by decide +kernel⟩ q1104 q1103 q1114 q1112 q1110) (by unfold zHd; decide +kernel) q1115 (zm 0 rfl) (ci := 12) rfl ⟨rfl, rfl⟩ ⟨(Nat.le_of_ble_eq_true rfl), (Nat.le_of_ble_eq_true rfl)⟩ rfl rfl rfl (Nat.le_of_ble_eq_true rfl) ⟨(Nat.le_of_ble_eq_true rfl), (Nat.le_of_ble_eq_true rfl)⟩ dX0_fitting_4 ?_
  intro _ hu4
  refine z_eq (lv₂ := [(0, .ref o), (1, .ref q), (2, .int (nI j)), (3, .ref ta), (4, .int 0)]) (st₂ := [.int 1]) ?_ rfl rfl
  refine z_top 1 rfl ?_
  refine z_istore (pc := 9) gX [1, 2, 3, 4, 5, 0] [(0, .ref o), (1, .ref q), (2, .int (nI j)), (3, .ref ta), (4, .int 0), (5, .int 1)] dX0_fitting_9 (by decide) rfl ?_
  have L11 : ∀ (n11 : Nat) (v : Nat) (set : Int32) (ht2 : sT) (T1 : va_W), (1 ≤ v) → (v ≤ 6) → (set = orG (ftF 0 n k c j tf 0 mm) 1 (v - 1)) → (tOK ht2) → (∀ z ∈ T, z ∈ T1) → 6 - v < n11 → zJ pX l eX (zRm 12 24 132) sX mX argsX blX mtX cX QX 6 (zI D A sX [[(q, .inr (12, [.int (nI j)]))], cOb o ad (sa 0) (sb 0) tr x, [(sa 0, .inr (2, [.int (c 16), .int (c 1), .int (c 0), .int wn, .ref (sa 1), .ref (sa 2), .ref (sa 3), .ref (sa 4)]))], [(sa 1, .inr (16, [.int md, .ref d, .int (nI n)]))], [(sa 2, .inl (D.1 100, 7, .inl (fun i_ => c (9 + i_))))], [(sa 3, .inl (D.1 100, 7, .inl (fun i_ => c (2 + i_))))], [(sa 4, .inl (D.1 100, 7, .inl od))], [(d, .inl (D.1 104, 10, .inr (.inr (.inr (.inr (rF ra n))))))], [(ta, .inl (D.1 100, mm, .inl tf))], thP D sb ht2, T1]) (2 * v) (11 * v) 11 [(0, .ref o), (1, .ref q), (2, .int (nI j)), (3, .ref ta), (4, .int set), (5, .int (nI v))] [] := by
    intro n11
    induction n11 with
    | zero => exact fun v set ht2 T1 hlo hhi hv ht2o hT hm11 => absurd hm11 (Nat.not_lt_zero _)
    | succ n11 ih11 =>
      intro v set ht2 T1 hlo hhi hv ht2o hT hm11
      refine z_iload (pc := 11) gX 5 dX0_fitting_11 rfl ?_
      refine z_aload_n (pc := 13) gX 1 dX0_fitting_13 rfl rfl ?_
      refine z_cOF (n := 0) (pc := 14) gX (zI_ok gX hAX) [] [.int (nI v)] [] (met_X13_high l D B0 q ) q1122 q1132 q1130 q82 (gX.zk.face ⟨by decide +kernel, by decide +kernel⟩ q1124 q1123 q1133 q1131 q1110) (by unfold zHd; decide +kernel) q1134 (zm 0 rfl) (ci := 12) rfl ⟨rfl, rfl⟩ ⟨(Nat.le_of_ble_eq_true rfl), (Nat.le_of_ble_eq_true rfl)⟩ rfl rfl rfl (Nat.le_of_ble_eq_true rfl) ⟨(by first | decide | (simp only [zRm]; omega)), (by first | decide | (simp only [zRm]; omega))⟩ dX0_fitting_14 ?_
      intro _ hu14
      refine z_eq (lv₂ := [(0, .ref o), (1, .ref q), (2, .int (nI j)), (3, .ref ta), (4, .int set), (5, .int (nI v))]) (st₂ := [.int 5, .int (nI v)]) ?_ rfl rfl
      refine z_top 5 rfl ?_
      refine z_icmp_gt (pc := 19) gX 68 dX0_fitting_19 (by decide) (fun c19 => ?_) (fun c19 => ?_)
      · skip
        have k19 : 5 < v := (zn_lt (a := 5) (b := v) (by omega) (by omega)).mp c19
        refine z_iload (pc := 68) gX 4 dX0_fitting_68 rfl ?_
        exact z_rim gX hQX (ht2, T1) (⟨ht2o, hT⟩) (zsv (by rw [hv, show v = 6 by omega]; rfl)) rfl (by first | decide | omega) (by first | decide | omega) dX0_fitting_70
      · skip
        have k19 : v ≤ 5 := (zn_nlt (a := 5) (b := v) (by omega) (by omega)).mp c19
        refine z_iload (pc := 22) gX 4 dX0_fitting_22 rfl ?_
        refine z_aload_n (pc := 24) gX 1 dX0_fitting_24 rfl rfl ?_
        refine z_aload_n (pc := 25) gX 0 dX0_fitting_25 rfl rfl ?_
        refine z_cMV (pc := 26) gX hAX [] [.ref q, .int set] [1, 2, 3, 4, 5, 6, 7, 9, 10] [0, 8] (fun A1 => met_X0_asNow l D B0 A1 o ad sa sb tr x wn md d n c od ra T1 k ht2 (hG.mono hT) ht2o) q986 q988 qs23 q47 q989 (zm 1 rfl) (ci := 0) rfl rfl hd_X0_asNow ⟨rfl, rfl⟩ ⟨(Nat.le_of_ble_eq_true rfl), (Nat.le_of_ble_eq_true rfl)⟩ rfl rfl (zpl 11 rfl (by decide +kernel)) rfl rfl (Nat.le_of_ble_eq_true rfl) ⟨(by first | decide | (simp only [zRm]; omega)), (by first | decide | (simp only [zRm]; omega))⟩ dX0_fitting_26 ?_
        intro u26 hu26
        obtain ⟨zmd_26, zd_26, zod_26⟩ := u26
        refine z_re [14, 0, 1, 2, 3, 4, 5, 6, 15, 7, 9, 10, 11, 12, 13, 8] [[(q, .inr (12, [.int (nI j)]))], cOb o ad (sa 0) (sb 0) tr x, [(sa 0, .inr (2, [.int (c 16), .int (c 1), .int (c 0), .int wn, .ref (sa 1), .ref (sa 2), .ref (sa 3), .ref (sa 4)]))], [(sa 1, .inr (16, [.int md, .ref d, .int (nI n)]))], [(sa 2, .inl (D.1 100, 7, .inl (fun i_ => c (9 + i_))))], [(sa 3, .inl (D.1 100, 7, .inl (fun i_ => c (2 + i_))))], [(sa 4, .inl (D.1 100, 7, .inl od))], [(d, .inl (D.1 104, 10, .inr (.inr (.inr (.inr (rF ra n))))))], [(ta, .inl (D.1 100, mm, .inl tf))], [(sb 0, .inr (2, [.int (c 16), .int (c 1), .int (c 0), .int wn, .ref (sb 1), .ref (sb 2), .ref (sb 3), .ref (sb 4)]))], [(sb 1, .inr (16, [.int zmd_26, .ref zd_26, .int (nI n)]))], [(sb 2, .inl (D.1 100, 7, .inl (fun i_ => c (9 + i_))))], [(sb 3, .inl (D.1 100, 7, .inl (fun i_ => c (2 + i_))))], [(sb 4, .inl (D.1 100, 7, .inl zod_26))], [(zd_26, .inl (D.1 104, 10, .inr (.inr (.inr (.inr (rF ra n))))))], T1] rfl (zpl 16 rfl (by decide +kernel)) ?_
        refine z_norm [[(q, .inr (12, [.int (nI j)]))], cOb o ad (sa 0) (sb 0) tr x, [(sa 0, .inr (2, [.int (c 16), .int (c 1), .int (c 0), .int wn, .ref (sa 1), .ref (sa 2), .ref (sa 3), .ref (sa 4)]))], [(sa 1, .inr (16, [.int md, .ref d, .int (nI n)]))], [(sa 2, .inl (D.1 100, 7, .inl (fun i_ => c (9 + i_))))], [(sa 3, .inl (D.1 100, 7, .inl (fun i_ => c (2 + i_))))], [(sa 4, .inl (D.1 100, 7, .inl od))], [(d, .inl (D.1 104, 10, .inr (.inr (.inr (.inr (rF ra n))))))], [(ta, .inl (D.1 100, mm, .inl tf))], [(sb 0, .inr (2, [.int (c 16), .int (c 1), .int (c 0), .int wn, .ref (sb 1), .ref (sb 2), .ref (sb 3), .ref (sb 4)]))], [(sb 1, .inr (16, [.int zmd_26, .ref zd_26, .int (nI n)]))], [(sb 2, .inl (D.1 100, 7, .inl (fun i_ => c (9 + i_))))], [(sb 3, .inl (D.1 100, 7, .inl (fun i_ => c (2 + i_))))], [(sb 4, .inl (D.1 100, 7, .inl zod_26))], [(zd_26, .inl (D.1 104, 10, .inr (.inr (.inr (.inr (rF ra n))))))], T1] (2 * v + 1) (11 * v + 10) ?_ rfl rfl rfl
        refine z_eq (lv₂ := [(0, .ref o), (1, .ref q), (2, .int (nI j)), (3, .ref ta), (4, .int set), (5, .int (nI v))]) (st₂ := [.ref (sb 0), .ref q, .int set]) ?_ rfl rfl
        refine z_iload (pc := 29) gX 5 dX0_fitting_29 rfl ?_
        refine z_cMF (n := 2) (pc := 31) gX hAX [.ref (sb 0), .int (nI v)] [.int set] [0, 9, 10, 11, 12, 13, 14, 15] [1, 2, 3, 4, 5, 6, 7, 8] (fun A1 => met_X13_lay l D B0 A1 q sb wn zmd_26 zd_26 n c zod_26 ra T1 k j v ((hG.mono hT).k) hj (by omega) (by omega)) q1146 q1156 q1154 q82 (gX.zk.face ⟨by decide +kernel, by decide +kernel⟩ q1148 q1147 q1157 q1155 q1110) (by unfold zHd; decide +kernel) q1158 (zm 0 rfl) (ci := 12) rfl ⟨rfl, rfl⟩ ⟨(Nat.le_of_ble_eq_true rfl), (Nat.le_of_ble_eq_true rfl)⟩ rfl rfl (zpl 16 rfl (by decide +kernel)) rfl rfl (Nat.le_of_ble_eq_true rfl) ⟨(by first | decide | (simp only [zRm]; omega)), (by first | decide | (simp only [zRm]; omega))⟩ dX0_fitting_31 ?_
        intro u31 hu31
        obtain ⟨z_31, rfl⟩ : ∃ z, z = u31 := ⟨_, rfl⟩
        refine z_re [0, 8, 9, 10, 11, 12, 13, 14, 15, 1, 2, 3, 4, 5, 6, 7] [[(q, .inr (12, [.int (nI j)]))], cOb o ad (sa 0) (sb 0) tr x, [(sa 0, .inr (2, [.int (c 16), .int (c 1), .int (c 0), .int wn, .ref (sa 1), .ref (sa 2), .ref (sa 3), .ref (sa 4)]))], [(sa 1, .inr (16, [.int md, .ref d, .int (nI n)]))], [(sa 2, .inl (D.1 100, 7, .inl (fun i_ => c (9 + i_))))], [(sa 3, .inl (D.1 100, 7, .inl (fun i_ => c (2 + i_))))], [(sa 4, .inl (D.1 100, 7, .inl od))], [(d, .inl (D.1 104, 10, .inr (.inr (.inr (.inr (rF ra n))))))], [(ta, .inl (D.1 100, mm, .inl tf))], [(sb 0, .inr (2, [.int ((upd c (18 + j) (nI v)) 16), .int ((upd c (18 + j) (nI v)) 1), .int ((upd c (18 + j) (nI v)) 0), .int wn, .ref (sb 1), .ref (sb 2), .ref (sb 3), .ref (sb 4)]))], [(sb 1, .inr (16, [.int zmd_26, .ref zd_26, .int (nI n)]))], [(sb 2, .inl (D.1 100, 7, .inl (fun i_ => (upd c (18 + j) (nI v)) (9 + i_))))], [(sb 3, .inl (D.1 100, 7, .inl (fun i_ => (upd c (18 + j) (nI v)) (2 + i_))))], [(sb 4, .inl (D.1 100, 7, .inl zod_26))], [(zd_26, .inl (D.1 104, 10, .inr (.inr (.inr (.inr (rF (raU ra j z_31) n))))))], (z_31, .inr (6 + v, [.int (nI j)])) :: T1] rfl (zpl 16 rfl (by decide +kernel)) ?_
        refine z_norm [[(q, .inr (12, [.int (nI j)]))], cOb o ad (sa 0) (sb 0) tr x, [(sa 0, .inr (2, [.int (c 16), .int (c 1), .int (c 0), .int wn, .ref (sa 1), .ref (sa 2), .ref (sa 3), .ref (sa 4)]))], [(sa 1, .inr (16, [.int md, .ref d, .int (nI n)]))], [(sa 2, .inl (D.1 100, 7, .inl (fun i_ => c (9 + i_))))], [(sa 3, .inl (D.1 100, 7, .inl (fun i_ => c (2 + i_))))], [(sa 4, .inl (D.1 100, 7, .inl od))], [(d, .inl (D.1 104, 10, .inr (.inr (.inr (.inr (rF ra n))))))], [(ta, .inl (D.1 100, mm, .inl tf))], [(sb 0, .inr (2, [.int ((upd c (18 + j) (nI v)) 16), .int ((upd c (18 + j) (nI v)) 1), .int ((upd c (18 + j) (nI v)) 0), .int wn, .ref (sb 1), .ref (sb 2), .ref (sb 3), .ref (sb 4)]))], [(sb 1, .inr (16, [.int zmd_26, .ref zd_26, .int (nI n)]))], [(sb 2, .inl (D.1 100, 7, .inl (fun i_ => (upd c (18 + j) (nI v)) (9 + i_))))], [(sb 3, .inl (D.1 100, 7, .inl (fun i_ => (upd c (18 + j) (nI v)) (2 + i_))))], [(sb 4, .inl (D.1 100, 7, .inl zod_26))], [(zd_26, .inl (D.1 104, 10, .inr (.inr (.inr (.inr (rF (raU ra j z_31) n))))))], (z_31, .inr (6 + v, [.int (nI j)])) :: T1] (2 * v + 1 + 1) (11 * v + 10 + 1) ?_ rfl rfl rfl
        refine z_eq (lv₂ := [(0, .ref o), (1, .ref q), (2, .int (nI j)), (3, .ref ta), (4, .int set), (5, .int (nI v))]) (st₂ := [.int (bI true), .int set]) ?_ rfl rfl
        refine z_if_eq (pc := 36) gX 58 dX0_fitting_36 (by decide) (fun c36 => ?_) (fun c36 => ?_)
        · skip
          have k36 : true = false := bI_eq0 c36
          exact absurd k36 (by decide)
        · skip
          have k36 : true = true := bI_ne0 c36
          refine z_aload_n (pc := 39) gX 0 dX0_fitting_39 rfl rfl ?_
          refine z_get (pc := 40) gX (zI_ok gX hAX) (zm 1 rfl) (ci := 0) (C := RX0) (T := TX0) (N := 14) rfl in_X0 5 (by decide) q214 (fun _ h => h) (v := .ref (sb 0)) rfl dX0_fitting_40 ?_
          refine z_iload_n (pc := 43) gX 2 dX0_fitting_43 rfl rfl ?_
          refine z_aload_n (pc := 44) gX 3 dX0_fitting_44 rfl rfl ?_
          refine z_cMS (pc := 45) gX hAX [.ref (sb 0), .int (nI j), .ref ta] [.int set] [9, 10, 11, 12, 13, 14, 8, 15] [0, 1, 2, 3, 4, 5, 6, 7] (fun A1 => met_X0_isSo l D B0 A1 sb wn zmd_26 zd_26 n (upd c (18 + j) (nI v)) zod_26 (raU ra j z_31) ((z_31, .inr (6 + v, [.int (nI j)])) :: T1) k ta mm tf j (kOK_sort (hG.mono hT).k (by omega) (by omega)) (by omega) (by omega)) q1181 q1182 q47 q1183 hd_X0_isSo ⟨rfl, rfl⟩ ⟨(Nat.le_of_ble_eq_true rfl), (Nat.le_of_ble_eq_true rfl)⟩ rfl rfl (zpl 16 rfl (by decide +kernel)) rfl rfl (Nat.le_of_ble_eq_true rfl) ⟨(by first | decide | (simp only [zRm]; omega)), (by first | decide | (simp only [zRm]; omega))⟩ dX0_fitting_45 ?_
          intro u45 hu45
          obtain ⟨c1_45, od1_45, wn1_45⟩ := u45
          refine z_re [8, 9, 10, 11, 12, 13, 14, 15, 6, 0, 1, 2, 3, 4, 5, 7] [[(q, .inr (12, [.int (nI j)]))], cOb o ad (sa 0) (sb 0) tr x, [(sa 0, .inr (2, [.int (c 16), .int (c 1), .int (c 0), .int wn, .ref (sa 1), .ref (sa 2), .ref (sa 3), .ref (sa 4)]))], [(sa 1, .inr (16, [.int md, .ref d, .int (nI n)]))], [(sa 2, .inl (D.1 100, 7, .inl (fun i_ => c (9 + i_))))], [(sa 3, .inl (D.1 100, 7, .inl (fun i_ => c (2 + i_))))], [(sa 4, .inl (D.1 100, 7, .inl od))], [(d, .inl (D.1 104, 10, .inr (.inr (.inr (.inr (rF ra n))))))], [(ta, .inl (D.1 100, mm, .inl tf))], [(sb 0, .inr (2, [.int (c1_45 16), .int (c1_45 1), .int (c1_45 0), .int wn1_45, .ref (sb 1), .ref (sb 2), .ref (sb 3), .ref (sb 4)]))], [(sb 1, .inr (16, [.int zmd_26, .ref zd_26, .int (nI n)]))], [(sb 2, .inl (D.1 100, 7, .inl (fun i_ => c1_45 (9 + i_))))], [(sb 3, .inl (D.1 100, 7, .inl (fun i_ => c1_45 (2 + i_))))], [(sb 4, .inl (D.1 100, 7, .inl od1_45))], [(zd_26, .inl (D.1 104, 10, .inr (.inr (.inr (.inr (rF (raU ra j z_31) n))))))], (z_31, .inr (6 + v, [.int (nI j)])) :: T1] rfl (zpl 16 rfl (by decide +kernel)) ?_
          refine z_eq (lv₂ := [(0, .ref o), (1, .ref q), (2, .int (nI j)), (3, .ref ta), (4, .int set), (5, .int (nI v))]) (st₂ := [.int (bI (soP n k (upd c (18 + j) (nI v)) j tf 0 mm)), .int set]) ?_ rfl rfl
          refine z_if_eq (pc := 48) gX 58 dX0_fitting_48 (by decide) (fun c48 => ?_) (fun c48 => ?_)
          · skip
            have k48 : (soP n k (upd c (18 + j) (nI v)) j tf 0 mm) = false := bI_eq0 c48
            refine z_iconst (pc := 58) gX 0 dX0_fitting_58 (by decide) ?_
            refine z_ior (pc := 59) gX dX0_fitting_59 ?_
            refine z_istore (pc := 60) gX [1, 2, 3, 4, 0, 5] [(0, .ref o), (1, .ref q), (2, .int (nI j)), (3, .ref ta), (4, .int (set ||| 0)), (5, .int (nI v))] dX0_fitting_60 (by decide) rfl ?_
            refine z_ws [[(q, .inr (12, [.int (nI j)]))], cOb o ad (sa 0) (sb 0) tr x, [(sa 0, .inr (2, [.int (c 16), .int (c 1), .int (c 0), .int wn, .ref (sa 1), .ref (sa 2), .ref (sa 3), .ref (sa 4)]))], [(sa 1, .inr (16, [.int md, .ref d, .int (nI n)]))], [(sa 2, .inl (D.1 100, 7, .inl (fun i_ => c (9 + i_))))], [(sa 3, .inl (D.1 100, 7, .inl (fun i_ => c (2 + i_))))], [(sa 4, .inl (D.1 100, 7, .inl od))], [(d, .inl (D.1 104, 10, .inr (.inr (.inr (.inr (rF ra n))))))], [(ta, .inl (D.1 100, mm, .inl tf))], thP D sb ((some zd_26, n, raU ra j z_31), (zmd_26, wn1_45, od1_45), c1_45), (z_31, .inr (6 + v, [.int (nI j)])) :: T1] (List.Perm.refl _) ?_
            refine z_iinc (pc := 62) gX 5 (nI (v + 1)) [1, 2, 3, 4, 5, 0] [(0, .ref o), (1, .ref q), (2, .int (nI j)), (3, .ref ta), (4, .int (set ||| 0)), (5, .int (nI (v + 1)))] dX0_fitting_62 rfl (nI_1 _) (by decide) rfl ?_
            refine z_goto (pc := 65) gX 11 dX0_fitting_65 (by decide) ?_
            refine z_widen (k := 2 * (v + 1)) (n := 11 * (v + 1)) (by omega) (by omega) ?_
            exact ih11 (v + 1) (set ||| 0) ((some zd_26, n, raU ra j z_31), (zmd_26, wn1_45, od1_45), c1_45) ((z_31, .inr (6 + v, [.int (nI j)])) :: T1) (by omega) (by omega) (by rw [orG_s (by omega), ← hv]; congr 1; simp only [ftF, mayW, layW, k36, k48, Bool.true_and, Bool.and_true, Bool.false_and, Bool.false_eq_true, if_true, if_false]) (tOK_g hG.2.1) (fun z hz => List.mem_cons_of_mem _ (hT z hz)) (by omega)
          · skip
            have k48 : (soP n k (upd c (18 + j) (nI v)) j tf 0 mm) = true := bI_ne0 c48
            refine z_iconst (pc := 51) gX 1 dX0_fitting_51 (by decide) ?_
            refine z_iload (pc := 52) gX 5 dX0_fitting_52 rfl ?_
            refine z_ishl (pc := 54) gX dX0_fitting_54 ?_
            refine z_goto (pc := 55) gX 59 dX0_fitting_55 (by decide) ?_
            refine z_ior (pc := 59) gX dX0_fitting_59 ?_
            refine z_istore (pc := 60) gX [1, 2, 3, 4, 0, 5] [(0, .ref o), (1, .ref q), (2, .int (nI j)), (3, .ref ta), (4, .int (set ||| (1 <<< ((nI v) &&& 31)))), (5, .int (nI v))] dX0_fitting_60 (by decide) rfl ?_
            refine z_ws [[(q, .inr (12, [.int (nI j)]))], cOb o ad (sa 0) (sb 0) tr x, [(sa 0, .inr (2, [.int (c 16), .int (c 1), .int (c 0), .int wn, .ref (sa 1), .ref (sa 2), .ref (sa 3), .ref (sa 4)]))], [(sa 1, .inr (16, [.int md, .ref d, .int (nI n)]))], [(sa 2, .inl (D.1 100, 7, .inl (fun i_ => c (9 + i_))))], [(sa 3, .inl (D.1 100, 7, .inl (fun i_ => c (2 + i_))))], [(sa 4, .inl (D.1 100, 7, .inl od))], [(d, .inl (D.1 104, 10, .inr (.inr (.inr (.inr (rF ra n))))))], [(ta, .inl (D.1 100, mm, .inl tf))], thP D sb ((some zd_26, n, raU ra j z_31), (zmd_26, wn1_45, od1_45), c1_45), (z_31, .inr (6 + v, [.int (nI j)])) :: T1] (List.Perm.refl _) ?_
            refine z_iinc (pc := 62) gX 5 (nI (v + 1)) [1, 2, 3, 4, 5, 0] [(0, .ref o), (1, .ref q), (2, .int (nI j)), (3, .ref ta), (4, .int (set ||| (1 <<< ((nI v) &&& 31)))), (5, .int (nI (v + 1)))] dX0_fitting_62 rfl (nI_1 _) (by decide) rfl ?_
            refine z_goto (pc := 65) gX 11 dX0_fitting_65 (by decide) ?_
            refine z_widen (k := 2 * (v + 1)) (n := 11 * (v + 1)) (by omega) (by omega) ?_
            exact ih11 (v + 1) (set ||| (1 <<< ((nI v) &&& 31))) ((some zd_26, n, raU ra j z_31), (zmd_26, wn1_45, od1_45), c1_45) ((z_31, .inr (6 + v, [.int (nI j)])) :: T1) (by omega) (by omega) (by rw [orG_s (by omega), ← hv]; congr 1; simp only [ftF, mayW, layW, k36, k48, Bool.true_and, Bool.and_true, Bool.false_and, Bool.false_eq_true, if_true, if_false]) (tOK_g hG.2.1) (fun z hz => List.mem_cons_of_mem _ (hT z hz)) (by omega)
  refine z_widen (k := 2 * 1) (n := 11 * 1) (by omega) (by omega) ?_
  exact L11 ((6 - 1) + 1) 1 0 ht T (by omega) (by omega) rfl ht0 (fun _ h => h) (Nat.lt_succ_self _)
theorem hd_X0_fitting : zHd yX0_fitting 3 := by unfold zHd; decide +kernel

set_option maxHeartbeats 4000000 in
theorem met_X0_fitting_1 (l : Launch) (D : va_G) (B0 : Nat) (A : Nat → Prop) (o : Nat) (ad : Nat → Nat) (sa : Nat → Nat) (sb : Nat → Nat) (tr : Nat) (x : Nat → Int32) (wn : Int32) (md : Int32) (d : Nat) (n : Nat) (c : Nat → Int32) (od : Nat → Int32) (ra : Nat → Nat) (T : va_W) (k : Nat) (ht : sT) (q : Nat) (ta : Nat) (mm : Nat) (tf : Nat → Int32) (j : Nat) (hG : gOK T n k ra c) (ht0 : tOK ht) (hj : j < n) (hm12 : mm ≤ 12) : Met l yX0_fitting (ws_ yX0_fitting cX0_fitting 6 (some .int)) (zRm 12 24 132) (va_Pc [.ref o, .ref q, .int (nI j), .ref ta] (zPre B0 D A [[(q, .inr (13, [.int (nI j)]))], cOb o ad (sa 0) (sb 0) tr x, [(sa 0, .inr (2, [.int (c 16), .int (c 1), .int (c 0), .int wn, .ref (sa 1), .ref (sa 2), .ref (sa 3), .ref (sa 4)]))], [(sa 1, .inr (16, [.int md, .ref d, .int (nI n)]))], [(sa 2, .inl (D.1 100, 7, .inl (fun i_ => c (9 + i_))))], [(sa 3, .inl (D.1 100, 7, .inl (fun i_ => c (2 + i_))))], [(sa 4, .inl (D.1 100, 7, .inl od))], [(d, .inl (D.1 104, 10, .inr (.inr (.inr (.inr (rF ra n))))))], [(ta, .inl (D.1 100, mm, .inl tf))], thP D sb ht, T])) (zQ (S := sT × va_W) (fun u => (fun (ht1 : sT) (T1 : va_W) => tOK ht1 ∧ (∀ z ∈ T, z ∈ T1)) u.1 u.2) (fun u => (fun (ht1 : sT) (T1 : va_W) => some (.int (ftS 1 n k c j tf 0 mm))) u.1 u.2) (fun u => (fun (ht1 : sT) (T1 : va_W) => [[(q, .inr (13, [.int (nI j)]))], cOb o ad (sa 0) (sb 0) tr x, [(sa 0, .inr (2, [.int (c 16), .int (c 1), .int (c 0), .int wn, .ref (sa 1), .ref (sa 2), .ref (sa 3), .ref (sa 4)]))], [(sa 1, .inr (16, [.int md, .ref d, .int (nI n)]))], [(sa 2, .inl (D.1 100, 7, .inl (fun i_ => c (9 + i_))))], [(sa 3, .inl (D.1 100, 7, .inl (fun i_ => c (2 + i_))))], [(sa 4, .inl (D.1 100, 7, .inl od))], [(d, .inl (D.1 104, 10, .inr (.inr (.inr (.inr (rF ra n))))))], [(ta, .inl (D.1 100, mm, .inl tf))], thP D sb ht1, T1]) u.1 u.2) D A) 24 132 A := by
  refine z_entry (by decide +kernel) (Nat.le_of_ble_eq_true rfl) (fun pX eX sX mX argsX blX mtX cX QX hQX gX hAX hnm => ?_)
  refine z_eq (lv₂ := [(0, .ref o), (1, .ref q), (2, .int (nI j)), (3, .ref ta)]) (st₂ := []) ?_ rfl rfl
  have hn7 := hG.2.1
  have hk12 := hG.2.2.2.2.2.1
  have hk4 := hG.2.2.2.2.1
  refine z_iconst (pc := 0) gX 0 dX0_fitting_0 (by decide) ?_
  refine z_istore (pc := 1) gX [1, 2, 3, 4, 0] [(0, .ref o), (1, .ref q), (2, .int (nI j)), (3, .ref ta), (4, .int 0)] dX0_fitting_1 (by decide) rfl ?_
  refine z_aload_n (pc := 3) gX 1 dX0_fitting_3 rfl rfl ?_
  refine z_cOFD (n := 0) (pc := 4) gX (zI_ok gX hAX) [] [] [] (met_X18_lowU l D B0 q ) q1102 q1107 (gX.zk.lands (fun _ _ h => flat_of_before _ h _ (by decide +kernel))) (gX.zk.face ⟨by decide +kernel, by decide +kernel⟩ q1104 q1103 q1108 q1106 q1105) (by unfold zHd; decide +kernel) q1109 (zm 0 rfl) (ci := 13) rfl ⟨rfl, rfl⟩ ⟨(Nat.le_of_ble_eq_true rfl), (Nat.le_of_ble_eq_true rfl)⟩ rfl rfl rfl (Nat.le_of_ble_eq_true rfl) ⟨(Nat.le_of_ble_eq_true rfl), (Nat.le_of_ble_eq_true rfl)⟩ dX0_fitting_4 ?_
  intro _ hu4
  refine z_eq (lv₂ := [(0, .ref o), (1, .ref q), (2, .int (nI j)), (3, .ref ta), (4, .int 0)]) (st₂ := [.int 0]) ?_ rfl rfl
  refine z_top 0 rfl ?_
  refine z_istore (pc := 9) gX [1, 2, 3, 4, 5, 0] [(0, .ref o), (1, .ref q), (2, .int (nI j)), (3, .ref ta), (4, .int 0), (5, .int 0)] dX0_fitting_9 (by decide) rfl ?_
  have L11 : ∀ (n11 : Nat) (v : Nat) (set : Int32) (ht2 : sT) (T1 : va_W), (0 ≤ v) → (v ≤ 2) → (set = orG (ftF 1 n k c j tf 0 mm) 0 (v - 0)) → (tOK ht2) → (∀ z ∈ T, z ∈ T1) → 2 - v < n11 → zJ pX l eX (zRm 12 24 132) sX mX argsX blX mtX cX QX 6 (zI D A sX [[(q, .inr (13, [.int (nI j)]))], cOb o ad (sa 0) (sb 0) tr x, [(sa 0, .inr (2, [.int (c 16), .int (c 1), .int (c 0), .int wn, .ref (sa 1), .ref (sa 2), .ref (sa 3), .ref (sa 4)]))], [(sa 1, .inr (16, [.int md, .ref d, .int (nI n)]))], [(sa 2, .inl (D.1 100, 7, .inl (fun i_ => c (9 + i_))))], [(sa 3, .inl (D.1 100, 7, .inl (fun i_ => c (2 + i_))))], [(sa 4, .inl (D.1 100, 7, .inl od))], [(d, .inl (D.1 104, 10, .inr (.inr (.inr (.inr (rF ra n))))))], [(ta, .inl (D.1 100, mm, .inl tf))], thP D sb ht2, T1]) (2 * v) (11 * v) 11 [(0, .ref o), (1, .ref q), (2, .int (nI j)), (3, .ref ta), (4, .int set), (5, .int (nI v))] [] := by
    intro n11
    induction n11 with
    | zero => exact fun v set ht2 T1 hlo hhi hv ht2o hT hm11 => absurd hm11 (Nat.not_lt_zero _)
    | succ n11 ih11 =>
      intro v set ht2 T1 hlo hhi hv ht2o hT hm11
      refine z_iload (pc := 11) gX 5 dX0_fitting_11 rfl ?_
      refine z_aload_n (pc := 13) gX 1 dX0_fitting_13 rfl rfl ?_
      refine z_cOF (n := 0) (pc := 14) gX (zI_ok gX hAX) [] [.int (nI v)] [] (met_X14_high l D B0 q ) q1122 q1127 q1125 q83 (gX.zk.face ⟨by decide +kernel, by decide +kernel⟩ q1124 q1123 q1128 q1126 q1105) (by unfold zHd; decide +kernel) q1129 (zm 0 rfl) (ci := 13) rfl ⟨rfl, rfl⟩ ⟨(Nat.le_of_ble_eq_true rfl), (Nat.le_of_ble_eq_true rfl)⟩ rfl rfl rfl (Nat.le_of_ble_eq_true rfl) ⟨(by first | decide | (simp only [zRm]; omega)), (by first | decide | (simp only [zRm]; omega))⟩ dX0_fitting_14 ?_
      intro _ hu14
      refine z_eq (lv₂ := [(0, .ref o), (1, .ref q), (2, .int (nI j)), (3, .ref ta), (4, .int set), (5, .int (nI v))]) (st₂ := [.int 1, .int (nI v)]) ?_ rfl rfl
      refine z_top 1 rfl ?_
      refine z_icmp_gt (pc := 19) gX 68 dX0_fitting_19 (by decide) (fun c19 => ?_) (fun c19 => ?_)
      · skip
        have k19 : 1 < v := (zn_lt (a := 1) (b := v) (by omega) (by omega)).mp c19
        refine z_iload (pc := 68) gX 4 dX0_fitting_68 rfl ?_
        exact z_rim gX hQX (ht2, T1) (⟨ht2o, hT⟩) (zsv (by rw [hv, show v = 2 by omega]; rfl)) rfl (by first | decide | omega) (by first | decide | omega) dX0_fitting_70
      · skip
        have k19 : v ≤ 1 := (zn_nlt (a := 1) (b := v) (by omega) (by omega)).mp c19
        refine z_iload (pc := 22) gX 4 dX0_fitting_22 rfl ?_
        refine z_aload_n (pc := 24) gX 1 dX0_fitting_24 rfl rfl ?_
        refine z_aload_n (pc := 25) gX 0 dX0_fitting_25 rfl rfl ?_
        refine z_cMV (pc := 26) gX hAX [] [.ref q, .int set] [1, 2, 3, 4, 5, 6, 7, 9, 10] [0, 8] (fun A1 => met_X0_asNow l D B0 A1 o ad sa sb tr x wn md d n c od ra T1 k ht2 (hG.mono hT) ht2o) q986 q988 qs23 q47 q989 (zm 1 rfl) (ci := 0) rfl rfl hd_X0_asNow ⟨rfl, rfl⟩ ⟨(Nat.le_of_ble_eq_true rfl), (Nat.le_of_ble_eq_true rfl)⟩ rfl rfl (zpl 11 rfl (by decide +kernel)) rfl rfl (Nat.le_of_ble_eq_true rfl) ⟨(by first | decide | (simp only [zRm]; omega)), (by first | decide | (simp only [zRm]; omega))⟩ dX0_fitting_26 ?_
        intro u26 hu26
        obtain ⟨zmd_26, zd_26, zod_26⟩ := u26
        refine z_re [14, 0, 1, 2, 3, 4, 5, 6, 15, 7, 9, 10, 11, 12, 13, 8] [[(q, .inr (13, [.int (nI j)]))], cOb o ad (sa 0) (sb 0) tr x, [(sa 0, .inr (2, [.int (c 16), .int (c 1), .int (c 0), .int wn, .ref (sa 1), .ref (sa 2), .ref (sa 3), .ref (sa 4)]))], [(sa 1, .inr (16, [.int md, .ref d, .int (nI n)]))], [(sa 2, .inl (D.1 100, 7, .inl (fun i_ => c (9 + i_))))], [(sa 3, .inl (D.1 100, 7, .inl (fun i_ => c (2 + i_))))], [(sa 4, .inl (D.1 100, 7, .inl od))], [(d, .inl (D.1 104, 10, .inr (.inr (.inr (.inr (rF ra n))))))], [(ta, .inl (D.1 100, mm, .inl tf))], [(sb 0, .inr (2, [.int (c 16), .int (c 1), .int (c 0), .int wn, .ref (sb 1), .ref (sb 2), .ref (sb 3), .ref (sb 4)]))], [(sb 1, .inr (16, [.int zmd_26, .ref zd_26, .int (nI n)]))], [(sb 2, .inl (D.1 100, 7, .inl (fun i_ => c (9 + i_))))], [(sb 3, .inl (D.1 100, 7, .inl (fun i_ => c (2 + i_))))], [(sb 4, .inl (D.1 100, 7, .inl zod_26))], [(zd_26, .inl (D.1 104, 10, .inr (.inr (.inr (.inr (rF ra n))))))], T1] rfl (zpl 16 rfl (by decide +kernel)) ?_
        refine z_norm [[(q, .inr (13, [.int (nI j)]))], cOb o ad (sa 0) (sb 0) tr x, [(sa 0, .inr (2, [.int (c 16), .int (c 1), .int (c 0), .int wn, .ref (sa 1), .ref (sa 2), .ref (sa 3), .ref (sa 4)]))], [(sa 1, .inr (16, [.int md, .ref d, .int (nI n)]))], [(sa 2, .inl (D.1 100, 7, .inl (fun i_ => c (9 + i_))))], [(sa 3, .inl (D.1 100, 7, .inl (fun i_ => c (2 + i_))))], [(sa 4, .inl (D.1 100, 7, .inl od))], [(d, .inl (D.1 104, 10, .inr (.inr (.inr (.inr (rF ra n))))))], [(ta, .inl (D.1 100, mm, .inl tf))], [(sb 0, .inr (2, [.int (c 16), .int (c 1), .int (c 0), .int wn, .ref (sb 1), .ref (sb 2), .ref (sb 3), .ref (sb 4)]))], [(sb 1, .inr (16, [.int zmd_26, .ref zd_26, .int (nI n)]))], [(sb 2, .inl (D.1 100, 7, .inl (fun i_ => c (9 + i_))))], [(sb 3, .inl (D.1 100, 7, .inl (fun i_ => c (2 + i_))))], [(sb 4, .inl (D.1 100, 7, .inl zod_26))], [(zd_26, .inl (D.1 104, 10, .inr (.inr (.inr (.inr (rF ra n))))))], T1] (2 * v + 1) (11 * v + 10) ?_ rfl rfl rfl
        refine z_eq (lv₂ := [(0, .ref o), (1, .ref q), (2, .int (nI j)), (3, .ref ta), (4, .int set), (5, .int (nI v))]) (st₂ := [.ref (sb 0), .ref q, .int set]) ?_ rfl rfl
        refine z_iload (pc := 29) gX 5 dX0_fitting_29 rfl ?_
        refine z_cMF (n := 2) (pc := 31) gX hAX [.ref (sb 0), .int (nI v)] [.int set] [0, 9, 10, 11, 12, 13, 14, 15] [1, 2, 3, 4, 5, 6, 7, 8] (fun A1 => met_X14_lay l D B0 A1 q sb wn zmd_26 zd_26 n c zod_26 ra T1 k j v ((hG.mono hT).k) hj) q1146 q1151 q1149 q83 (gX.zk.face ⟨by decide +kernel, by decide +kernel⟩ q1148 q1147 q1152 q1150 q1105) (by unfold zHd; decide +kernel) q1153 (zm 0 rfl) (ci := 13) rfl ⟨rfl, rfl⟩ ⟨(Nat.le_of_ble_eq_true rfl), (Nat.le_of_ble_eq_true rfl)⟩ rfl rfl (zpl 16 rfl (by decide +kernel)) rfl rfl (Nat.le_of_ble_eq_true rfl) ⟨(by first | decide | (simp only [zRm]; omega)), (by first | decide | (simp only [zRm]; omega))⟩ dX0_fitting_31 ?_
        intro _ hu31
        refine z_re [0, 8, 9, 10, 11, 12, 13, 14, 15, 1, 2, 3, 4, 5, 6, 7] [[(q, .inr (13, [.int (nI j)]))], cOb o ad (sa 0) (sb 0) tr x, [(sa 0, .inr (2, [.int (c 16), .int (c 1), .int (c 0), .int wn, .ref (sa 1), .ref (sa 2), .ref (sa 3), .ref (sa 4)]))], [(sa 1, .inr (16, [.int md, .ref d, .int (nI n)]))], [(sa 2, .inl (D.1 100, 7, .inl (fun i_ => c (9 + i_))))], [(sa 3, .inl (D.1 100, 7, .inl (fun i_ => c (2 + i_))))], [(sa 4, .inl (D.1 100, 7, .inl od))], [(d, .inl (D.1 104, 10, .inr (.inr (.inr (.inr (rF ra n))))))], [(ta, .inl (D.1 100, mm, .inl tf))], [(sb 0, .inr (2, [.int ((upd c (9 + j) (nI v)) 16), .int ((upd c (9 + j) (nI v)) 1), .int ((upd c (9 + j) (nI v)) 0), .int wn, .ref (sb 1), .ref (sb 2), .ref (sb 3), .ref (sb 4)]))], [(sb 1, .inr (16, [.int zmd_26, .ref zd_26, .int (nI n)]))], [(sb 2, .inl (D.1 100, 7, .inl (fun i_ => (upd c (9 + j) (nI v)) (9 + i_))))], [(sb 3, .inl (D.1 100, 7, .inl (fun i_ => (upd c (9 + j) (nI v)) (2 + i_))))], [(sb 4, .inl (D.1 100, 7, .inl zod_26))], [(zd_26, .inl (D.1 104, 10, .inr (.inr (.inr (.inr (rF ra n))))))], T1] rfl (zpl 16 rfl (by decide +kernel)) ?_
        refine z_eq (lv₂ := [(0, .ref o), (1, .ref q), (2, .int (nI j)), (3, .ref ta), (4, .int set), (5, .int (nI v))]) (st₂ := [.int (bI true), .int set]) ?_ rfl rfl
        refine z_if_eq (pc := 36) gX 58 dX0_fitting_36 (by decide) (fun c36 => ?_) (fun c36 => ?_)
        · skip
          have k36 : true = false := bI_eq0 c36
          exact absurd k36 (by decide)
        · skip
          have k36 : true = true := bI_ne0 c36
          refine z_aload_n (pc := 39) gX 0 dX0_fitting_39 rfl rfl ?_
          refine z_get (pc := 40) gX (zI_ok gX hAX) (zm 1 rfl) (ci := 0) (C := RX0) (T := TX0) (N := 14) rfl in_X0 5 (by decide) q214 (fun _ h => h) (v := .ref (sb 0)) rfl dX0_fitting_40 ?_
          refine z_iload_n (pc := 43) gX 2 dX0_fitting_43 rfl rfl ?_
          refine z_aload_n (pc := 44) gX 3 dX0_fitting_44 rfl rfl ?_
          refine z_cMS (pc := 45) gX hAX [.ref (sb 0), .int (nI j), .ref ta] [.int set] [9, 10, 11, 12, 13, 14, 8, 15] [0, 1, 2, 3, 4, 5, 6, 7] (fun A1 => met_X0_isSo l D B0 A1 sb wn zmd_26 zd_26 n (upd c (9 + j) (nI v)) zod_26 ra T1 k ta mm tf j ((hG.mono hT).k.upl (by rcases (show v = 0 ∨ v = 1 by omega) with rfl | rfl; exact Or.inl rfl; exact Or.inr rfl) (by omega)) (by omega) (by omega)) q1181 q1182 q47 q1183 hd_X0_isSo ⟨rfl, rfl⟩ ⟨(Nat.le_of_ble_eq_true rfl), (Nat.le_of_ble_eq_true rfl)⟩ rfl rfl (zpl 16 rfl (by decide +kernel)) rfl rfl (Nat.le_of_ble_eq_true rfl) ⟨(by first | decide | (simp only [zRm]; omega)), (by first | decide | (simp only [zRm]; omega))⟩ dX0_fitting_45 ?_
          intro u45 hu45
          obtain ⟨c1_45, od1_45, wn1_45⟩ := u45
          refine z_re [8, 9, 10, 11, 12, 13, 14, 15, 6, 0, 1, 2, 3, 4, 5, 7] [[(q, .inr (13, [.int (nI j)]))], cOb o ad (sa 0) (sb 0) tr x, [(sa 0, .inr (2, [.int (c 16), .int (c 1), .int (c 0), .int wn, .ref (sa 1), .ref (sa 2), .ref (sa 3), .ref (sa 4)]))], [(sa 1, .inr (16, [.int md, .ref d, .int (nI n)]))], [(sa 2, .inl (D.1 100, 7, .inl (fun i_ => c (9 + i_))))], [(sa 3, .inl (D.1 100, 7, .inl (fun i_ => c (2 + i_))))], [(sa 4, .inl (D.1 100, 7, .inl od))], [(d, .inl (D.1 104, 10, .inr (.inr (.inr (.inr (rF ra n))))))], [(ta, .inl (D.1 100, mm, .inl tf))], [(sb 0, .inr (2, [.int (c1_45 16), .int (c1_45 1), .int (c1_45 0), .int wn1_45, .ref (sb 1), .ref (sb 2), .ref (sb 3), .ref (sb 4)]))], [(sb 1, .inr (16, [.int zmd_26, .ref zd_26, .int (nI n)]))], [(sb 2, .inl (D.1 100, 7, .inl (fun i_ => c1_45 (9 + i_))))], [(sb 3, .inl (D.1 100, 7, .inl (fun i_ => c1_45 (2 + i_))))], [(sb 4, .inl (D.1 100, 7, .inl od1_45))], [(zd_26, .inl (D.1 104, 10, .inr (.inr (.inr (.inr (rF ra n))))))], T1] rfl (zpl 16 rfl (by decide +kernel)) ?_
          refine z_eq (lv₂ := [(0, .ref o), (1, .ref q), (2, .int (nI j)), (3, .ref ta), (4, .int set), (5, .int (nI v))]) (st₂ := [.int (bI (soP n k (upd c (9 + j) (nI v)) j tf 0 mm)), .int set]) ?_ rfl rfl
          refine z_if_eq (pc := 48) gX 58 dX0_fitting_48 (by decide) (fun c48 => ?_) (fun c48 => ?_)
          · skip
            have k48 : (soP n k (upd c (9 + j) (nI v)) j tf 0 mm) = false := bI_eq0 c48
            refine z_iconst (pc := 58) gX 0 dX0_fitting_58 (by decide) ?_
            refine z_ior (pc := 59) gX dX0_fitting_59 ?_
            refine z_istore (pc := 60) gX [1, 2, 3, 4, 0, 5] [(0, .ref o), (1, .ref q), (2, .int (nI j)), (3, .ref ta), (4, .int (set ||| 0)), (5, .int (nI v))] dX0_fitting_60 (by decide) rfl ?_
            refine z_ws [[(q, .inr (13, [.int (nI j)]))], cOb o ad (sa 0) (sb 0) tr x, [(sa 0, .inr (2, [.int (c 16), .int (c 1), .int (c 0), .int wn, .ref (sa 1), .ref (sa 2), .ref (sa 3), .ref (sa 4)]))], [(sa 1, .inr (16, [.int md, .ref d, .int (nI n)]))], [(sa 2, .inl (D.1 100, 7, .inl (fun i_ => c (9 + i_))))], [(sa 3, .inl (D.1 100, 7, .inl (fun i_ => c (2 + i_))))], [(sa 4, .inl (D.1 100, 7, .inl od))], [(d, .inl (D.1 104, 10, .inr (.inr (.inr (.inr (rF ra n))))))], [(ta, .inl (D.1 100, mm, .inl tf))], thP D sb ((some zd_26, n, ra), (zmd_26, wn1_45, od1_45), c1_45), T1] (List.Perm.refl _) ?_
            refine z_iinc (pc := 62) gX 5 (nI (v + 1)) [1, 2, 3, 4, 5, 0] [(0, .ref o), (1, .ref q), (2, .int (nI j)), (3, .ref ta), (4, .int (set ||| 0)), (5, .int (nI (v + 1)))] dX0_fitting_62 rfl (nI_1 _) (by decide) rfl ?_
            refine z_goto (pc := 65) gX 11 dX0_fitting_65 (by decide) ?_
            refine z_widen (k := 2 * (v + 1)) (n := 11 * (v + 1)) (by omega) (by omega) ?_
            exact ih11 (v + 1) (set ||| 0) ((some zd_26, n, ra), (zmd_26, wn1_45, od1_45), c1_45) T1 (by omega) (by omega) (by rw [orG_s (by omega), ← hv]; congr 1; simp only [ftF, mayW, layW, k36, k48, Bool.true_and, Bool.and_true, Bool.false_and, Bool.false_eq_true, if_true, if_false]) (tOK_g hG.2.1) hT (by omega)
          · skip
            have k48 : (soP n k (upd c (9 + j) (nI v)) j tf 0 mm) = true := bI_ne0 c48
            refine z_iconst (pc := 51) gX 1 dX0_fitting_51 (by decide) ?_
            refine z_iload (pc := 52) gX 5 dX0_fitting_52 rfl ?_
            refine z_ishl (pc := 54) gX dX0_fitting_54 ?_
            refine z_goto (pc := 55) gX 59 dX0_fitting_55 (by decide) ?_
            refine z_ior (pc := 59) gX dX0_fitting_59 ?_
            refine z_istore (pc := 60) gX [1, 2, 3, 4, 0, 5] [(0, .ref o), (1, .ref q), (2, .int (nI j)), (3, .ref ta), (4, .int (set ||| (1 <<< ((nI v) &&& 31)))), (5, .int (nI v))] dX0_fitting_60 (by decide) rfl ?_
            refine z_ws [[(q, .inr (13, [.int (nI j)]))], cOb o ad (sa 0) (sb 0) tr x, [(sa 0, .inr (2, [.int (c 16), .int (c 1), .int (c 0), .int wn, .ref (sa 1), .ref (sa 2), .ref (sa 3), .ref (sa 4)]))], [(sa 1, .inr (16, [.int md, .ref d, .int (nI n)]))], [(sa 2, .inl (D.1 100, 7, .inl (fun i_ => c (9 + i_))))], [(sa 3, .inl (D.1 100, 7, .inl (fun i_ => c (2 + i_))))], [(sa 4, .inl (D.1 100, 7, .inl od))], [(d, .inl (D.1 104, 10, .inr (.inr (.inr (.inr (rF ra n))))))], [(ta, .inl (D.1 100, mm, .inl tf))], thP D sb ((some zd_26, n, ra), (zmd_26, wn1_45, od1_45), c1_45), T1] (List.Perm.refl _) ?_
            refine z_iinc (pc := 62) gX 5 (nI (v + 1)) [1, 2, 3, 4, 5, 0] [(0, .ref o), (1, .ref q), (2, .int (nI j)), (3, .ref ta), (4, .int (set ||| (1 <<< ((nI v) &&& 31)))), (5, .int (nI (v + 1)))] dX0_fitting_62 rfl (nI_1 _) (by decide) rfl ?_
            refine z_goto (pc := 65) gX 11 dX0_fitting_65 (by decide) ?_
            refine z_widen (k := 2 * (v + 1)) (n := 11 * (v + 1)) (by omega) (by omega) ?_
            exact ih11 (v + 1) (set ||| (1 <<< ((nI v) &&& 31))) ((some zd_26, n, ra), (zmd_26, wn1_45, od1_45), c1_45) T1 (by omega) (by omega) (by rw [orG_s (by omega), ← hv]; congr 1; simp only [ftF, mayW, layW, k36, k48, Bool.true_and, Bool.and_true, Bool.false_and, Bool.false_eq_true, if_true, if_false]) (tOK_g hG.2.1) hT (by omega)
  refine z_widen (k := 2 * 0) (n := 11 * 0) (by omega) (by omega) ?_
  exact L11 ((2 - 0) + 1) 0 0 ht T (by omega) (by omega) rfl ht0 (fun _ h => h) (Nat.lt_succ_self _)

set_option maxHeartbeats 4000000 in
theorem met_X0_fitting_2 (l : Launch) (D : va_G) (B0 : Nat) (A : Nat → Prop) (o : Nat) (ad : Nat → Nat) (sa : Nat → Nat) (sb : Nat → Nat) (tr : Nat) (x : Nat → Int32) (wn : Int32) (md : Int32) (d : Nat) (n : Nat) (c : Nat → Int32) (od : Nat → Int32) (ra : Nat → Nat) (T : va_W) (k : Nat) (ht : sT) (q : Nat) (ta : Nat) (mm : Nat) (tf : Nat → Int32) (j : Nat) (hG : gOK T n k ra c) (ht0 : tOK ht) (hj : j < n) (hm12 : mm ≤ 12) : Met l yX0_fitting (ws_ yX0_fitting cX0_fitting 6 (some .int)) (zRm 12 24 132) (va_Pc [.ref o, .ref q, .int (nI j), .ref ta] (zPre B0 D A [[(q, .inr (17, []))], cOb o ad (sa 0) (sb 0) tr x, [(sa 0, .inr (2, [.int (c 16), .int (c 1), .int (c 0), .int wn, .ref (sa 1), .ref (sa 2), .ref (sa 3), .ref (sa 4)]))], [(sa 1, .inr (16, [.int md, .ref d, .int (nI n)]))], [(sa 2, .inl (D.1 100, 7, .inl (fun i_ => c (9 + i_))))], [(sa 3, .inl (D.1 100, 7, .inl (fun i_ => c (2 + i_))))], [(sa 4, .inl (D.1 100, 7, .inl od))], [(d, .inl (D.1 104, 10, .inr (.inr (.inr (.inr (rF ra n))))))], [(ta, .inl (D.1 100, mm, .inl tf))], thP D sb ht, T])) (zQ (S := sT × va_W) (fun u => (fun (ht1 : sT) (T1 : va_W) => tOK ht1 ∧ (∀ z ∈ T, z ∈ T1)) u.1 u.2) (fun u => (fun (ht1 : sT) (T1 : va_W) => some (.int (ftS 2 n k c j tf 0 mm))) u.1 u.2) (fun u => (fun (ht1 : sT) (T1 : va_W) => [[(q, .inr (17, []))], cOb o ad (sa 0) (sb 0) tr x, [(sa 0, .inr (2, [.int (c 16), .int (c 1), .int (c 0), .int wn, .ref (sa 1), .ref (sa 2), .ref (sa 3), .ref (sa 4)]))], [(sa 1, .inr (16, [.int md, .ref d, .int (nI n)]))], [(sa 2, .inl (D.1 100, 7, .inl (fun i_ => c (9 + i_))))], [(sa 3, .inl (D.1 100, 7, .inl (fun i_ => c (2 + i_))))], [(sa 4, .inl (D.1 100, 7, .inl od))], [(d, .inl (D.1 104, 10, .inr (.inr (.inr (.inr (rF ra n))))))], [(ta, .inl (D.1 100, mm, .inl tf))], thP D sb ht1, T1]) u.1 u.2) D A) 24 132 A := by
  refine z_entry (by decide +kernel) (Nat.le_of_ble_eq_true rfl) (fun pX eX sX mX argsX blX mtX cX QX hQX gX hAX hnm => ?_)
  refine z_eq (lv₂ := [(0, .ref o), (1, .ref q), (2, .int (nI j)), (3, .ref ta)]) (st₂ := []) ?_ rfl rfl
  have hn7 := hG.2.1
  have hk12 := hG.2.2.2.2.2.1
  have hk4 := hG.2.2.2.2.1
  refine z_iconst (pc := 0) gX 0 dX0_fitting_0 (by decide) ?_
  refine z_istore (pc := 1) gX [1, 2, 3, 4, 0] [(0, .ref o), (1, .ref q), (2, .int (nI j)), (3, .ref ta), (4, .int 0)] dX0_fitting_1 (by decide) rfl ?_
  refine z_aload_n (pc := 3) gX 1 dX0_fitting_3 rfl rfl ?_
  refine z_cOFD (n := 0) (pc := 4) gX (zI_ok gX hAX) [] [] [] (met_X18_lowU l D B0 q ) q1102 q1107 (gX.zk.lands (fun _ _ h => flat_of_before _ h _ (by decide +kernel))) (gX.zk.face ⟨by decide +kernel, by decide +kernel⟩ q1104 q1103 q1108 q1118 q1117) (by unfold zHd; decide +kernel) q1109 (zm 0 rfl) (ci := 17) rfl ⟨rfl, rfl⟩ ⟨(Nat.le_of_ble_eq_true rfl), (Nat.le_of_ble_eq_true rfl)⟩ rfl rfl rfl (Nat.le_of_ble_eq_true rfl) ⟨(Nat.le_of_ble_eq_true rfl), (Nat.le_of_ble_eq_true rfl)⟩ dX0_fitting_4 ?_
  intro _ hu4
  refine z_eq (lv₂ := [(0, .ref o), (1, .ref q), (2, .int (nI j)), (3, .ref ta), (4, .int 0)]) (st₂ := [.int 0]) ?_ rfl rfl
  refine z_top 0 rfl ?_
  refine z_istore (pc := 9) gX [1, 2, 3, 4, 5, 0] [(0, .ref o), (1, .ref q), (2, .int (nI j)), (3, .ref ta), (4, .int 0), (5, .int 0)] dX0_fitting_9 (by decide) rfl ?_
  have L11 : ∀ (n11 : Nat) (v : Nat) (set : Int32) (ht2 : sT) (T1 : va_W), (0 ≤ v) → (v ≤ 3) → (set = orG (ftF 2 n k c j tf 0 mm) 0 (v - 0)) → (tOK ht2) → (∀ z ∈ T, z ∈ T1) → 3 - v < n11 → zJ pX l eX (zRm 12 24 132) sX mX argsX blX mtX cX QX 6 (zI D A sX [[(q, .inr (17, []))], cOb o ad (sa 0) (sb 0) tr x, [(sa 0, .inr (2, [.int (c 16), .int (c 1), .int (c 0), .int wn, .ref (sa 1), .ref (sa 2), .ref (sa 3), .ref (sa 4)]))], [(sa 1, .inr (16, [.int md, .ref d, .int (nI n)]))], [(sa 2, .inl (D.1 100, 7, .inl (fun i_ => c (9 + i_))))], [(sa 3, .inl (D.1 100, 7, .inl (fun i_ => c (2 + i_))))], [(sa 4, .inl (D.1 100, 7, .inl od))], [(d, .inl (D.1 104, 10, .inr (.inr (.inr (.inr (rF ra n))))))], [(ta, .inl (D.1 100, mm, .inl tf))], thP D sb ht2, T1]) (2 * v) (11 * v) 11 [(0, .ref o), (1, .ref q), (2, .int (nI j)), (3, .ref ta), (4, .int set), (5, .int (nI v))] [] := by
    intro n11
    induction n11 with
    | zero => exact fun v set ht2 T1 hlo hhi hv ht2o hT hm11 => absurd hm11 (Nat.not_lt_zero _)
    | succ n11 ih11 =>
      intro v set ht2 T1 hlo hhi hv ht2o hT hm11
      refine z_iload (pc := 11) gX 5 dX0_fitting_11 rfl ?_
      refine z_aload_n (pc := 13) gX 1 dX0_fitting_13 rfl rfl ?_
      refine z_cOF (n := 0) (pc := 14) gX (zI_ok gX hAX) [] [.int (nI v)] [] (met_X15_high l D B0 q ) q1122 q1137 q1135 q84 (gX.zk.face ⟨by decide +kernel, by decide +kernel⟩ q1124 q1123 q1138 q1136 q1117) (by unfold zHd; decide +kernel) q1139 (zm 0 rfl) (ci := 17) rfl ⟨rfl, rfl⟩ ⟨(Nat.le_of_ble_eq_true rfl), (Nat.le_of_ble_eq_true rfl)⟩ rfl rfl rfl (Nat.le_of_ble_eq_true rfl) ⟨(by first | decide | (simp only [zRm]; omega)), (by first | decide | (simp only [zRm]; omega))⟩ dX0_fitting_14 ?_
      intro _ hu14
      refine z_eq (lv₂ := [(0, .ref o), (1, .ref q), (2, .int (nI j)), (3, .ref ta), (4, .int set), (5, .int (nI v))]) (st₂ := [.int 2, .int (nI v)]) ?_ rfl rfl
      refine z_top 2 rfl ?_
      refine z_icmp_gt (pc := 19) gX 68 dX0_fitting_19 (by decide) (fun c19 => ?_) (fun c19 => ?_)
      · skip
        have k19 : 2 < v := (zn_lt (a := 2) (b := v) (by omega) (by omega)).mp c19
        refine z_iload (pc := 68) gX 4 dX0_fitting_68 rfl ?_
        exact z_rim gX hQX (ht2, T1) (⟨ht2o, hT⟩) (zsv (by rw [hv, show v = 3 by omega]; rfl)) rfl (by first | decide | omega) (by first | decide | omega) dX0_fitting_70
      · skip
        have k19 : v ≤ 2 := (zn_nlt (a := 2) (b := v) (by omega) (by omega)).mp c19
        refine z_iload (pc := 22) gX 4 dX0_fitting_22 rfl ?_
        refine z_aload_n (pc := 24) gX 1 dX0_fitting_24 rfl rfl ?_
        refine z_aload_n (pc := 25) gX 0 dX0_fitting_25 rfl rfl ?_
        refine z_cMV (pc := 26) gX hAX [] [.ref q, .int set] [1, 2, 3, 4, 5, 6, 7, 9, 10] [0, 8] (fun A1 => met_X0_asNow l D B0 A1 o ad sa sb tr x wn md d n c od ra T1 k ht2 (hG.mono hT) ht2o) q986 q988 qs23 q47 q989 (zm 1 rfl) (ci := 0) rfl rfl hd_X0_asNow ⟨rfl, rfl⟩ ⟨(Nat.le_of_ble_eq_true rfl), (Nat.le_of_ble_eq_true rfl)⟩ rfl rfl (zpl 11 rfl (by decide +kernel)) rfl rfl (Nat.le_of_ble_eq_true rfl) ⟨(by first | decide | (simp only [zRm]; omega)), (by first | decide | (simp only [zRm]; omega))⟩ dX0_fitting_26 ?_
        intro u26 hu26
        obtain ⟨zmd_26, zd_26, zod_26⟩ := u26
        refine z_re [14, 0, 1, 2, 3, 4, 5, 6, 15, 7, 9, 10, 11, 12, 13, 8] [[(q, .inr (17, []))], cOb o ad (sa 0) (sb 0) tr x, [(sa 0, .inr (2, [.int (c 16), .int (c 1), .int (c 0), .int wn, .ref (sa 1), .ref (sa 2), .ref (sa 3), .ref (sa 4)]))], [(sa 1, .inr (16, [.int md, .ref d, .int (nI n)]))], [(sa 2, .inl (D.1 100, 7, .inl (fun i_ => c (9 + i_))))], [(sa 3, .inl (D.1 100, 7, .inl (fun i_ => c (2 + i_))))], [(sa 4, .inl (D.1 100, 7, .inl od))], [(d, .inl (D.1 104, 10, .inr (.inr (.inr (.inr (rF ra n))))))], [(ta, .inl (D.1 100, mm, .inl tf))], [(sb 0, .inr (2, [.int (c 16), .int (c 1), .int (c 0), .int wn, .ref (sb 1), .ref (sb 2), .ref (sb 3), .ref (sb 4)]))], [(sb 1, .inr (16, [.int zmd_26, .ref zd_26, .int (nI n)]))], [(sb 2, .inl (D.1 100, 7, .inl (fun i_ => c (9 + i_))))], [(sb 3, .inl (D.1 100, 7, .inl (fun i_ => c (2 + i_))))], [(sb 4, .inl (D.1 100, 7, .inl zod_26))], [(zd_26, .inl (D.1 104, 10, .inr (.inr (.inr (.inr (rF ra n))))))], T1] rfl (zpl 16 rfl (by decide +kernel)) ?_
        refine z_norm [[(q, .inr (17, []))], cOb o ad (sa 0) (sb 0) tr x, [(sa 0, .inr (2, [.int (c 16), .int (c 1), .int (c 0), .int wn, .ref (sa 1), .ref (sa 2), .ref (sa 3), .ref (sa 4)]))], [(sa 1, .inr (16, [.int md, .ref d, .int (nI n)]))], [(sa 2, .inl (D.1 100, 7, .inl (fun i_ => c (9 + i_))))], [(sa 3, .inl (D.1 100, 7, .inl (fun i_ => c (2 + i_))))], [(sa 4, .inl (D.1 100, 7, .inl od))], [(d, .inl (D.1 104, 10, .inr (.inr (.inr (.inr (rF ra n))))))], [(ta, .inl (D.1 100, mm, .inl tf))], [(sb 0, .inr (2, [.int (c 16), .int (c 1), .int (c 0), .int wn, .ref (sb 1), .ref (sb 2), .ref (sb 3), .ref (sb 4)]))], [(sb 1, .inr (16, [.int zmd_26, .ref zd_26, .int (nI n)]))], [(sb 2, .inl (D.1 100, 7, .inl (fun i_ => c (9 + i_))))], [(sb 3, .inl (D.1 100, 7, .inl (fun i_ => c (2 + i_))))], [(sb 4, .inl (D.1 100, 7, .inl zod_26))], [(zd_26, .inl (D.1 104, 10, .inr (.inr (.inr (.inr (rF ra n))))))], T1] (2 * v + 1) (11 * v + 10) ?_ rfl rfl rfl
        refine z_eq (lv₂ := [(0, .ref o), (1, .ref q), (2, .int (nI j)), (3, .ref ta), (4, .int set), (5, .int (nI v))]) (st₂ := [.ref (sb 0), .ref q, .int set]) ?_ rfl rfl
        refine z_iload (pc := 29) gX 5 dX0_fitting_29 rfl ?_
        refine z_cMF (n := 2) (pc := 31) gX hAX [.ref (sb 0), .int (nI v)] [.int set] [0, 9, 10, 11, 12, 13, 14, 15] [1, 2, 3, 4, 5, 6, 7, 8] (fun A1 => met_X15_lay l D B0 A1 q sb wn zmd_26 zd_26 n c zod_26 ra T1 k j v ((hG.mono hT).k) hj) q1146 q1171 q1169 q84 (gX.zk.face ⟨by decide +kernel, by decide +kernel⟩ q1148 q1147 q1172 q1170 q1117) (by unfold zHd; decide +kernel) q1173 (zm 0 rfl) (ci := 17) rfl ⟨rfl, rfl⟩ ⟨(Nat.le_of_ble_eq_true rfl), (Nat.le_of_ble_eq_true rfl)⟩ rfl rfl (zpl 16 rfl (by decide +kernel)) rfl rfl (Nat.le_of_ble_eq_true rfl) ⟨(by first | decide | (simp only [zRm]; omega)), (by first | decide | (simp only [zRm]; omega))⟩ dX0_fitting_31 ?_
        intro _ hu31
        refine z_re [0, 8, 9, 10, 11, 12, 13, 14, 15, 1, 2, 3, 4, 5, 6, 7] [[(q, .inr (17, []))], cOb o ad (sa 0) (sb 0) tr x, [(sa 0, .inr (2, [.int (c 16), .int (c 1), .int (c 0), .int wn, .ref (sa 1), .ref (sa 2), .ref (sa 3), .ref (sa 4)]))], [(sa 1, .inr (16, [.int md, .ref d, .int (nI n)]))], [(sa 2, .inl (D.1 100, 7, .inl (fun i_ => c (9 + i_))))], [(sa 3, .inl (D.1 100, 7, .inl (fun i_ => c (2 + i_))))], [(sa 4, .inl (D.1 100, 7, .inl od))], [(d, .inl (D.1 104, 10, .inr (.inr (.inr (.inr (rF ra n))))))], [(ta, .inl (D.1 100, mm, .inl tf))], [(sb 0, .inr (2, [.int ((upd c 1 (nI v)) 16), .int ((upd c 1 (nI v)) 1), .int ((upd c 1 (nI v)) 0), .int wn, .ref (sb 1), .ref (sb 2), .ref (sb 3), .ref (sb 4)]))], [(sb 1, .inr (16, [.int zmd_26, .ref zd_26, .int (nI n)]))], [(sb 2, .inl (D.1 100, 7, .inl (fun i_ => (upd c 1 (nI v)) (9 + i_))))], [(sb 3, .inl (D.1 100, 7, .inl (fun i_ => (upd c 1 (nI v)) (2 + i_))))], [(sb 4, .inl (D.1 100, 7, .inl zod_26))], [(zd_26, .inl (D.1 104, 10, .inr (.inr (.inr (.inr (rF ra n))))))], T1] rfl (zpl 16 rfl (by decide +kernel)) ?_
        refine z_eq (lv₂ := [(0, .ref o), (1, .ref q), (2, .int (nI j)), (3, .ref ta), (4, .int set), (5, .int (nI v))]) (st₂ := [.int (bI true), .int set]) ?_ rfl rfl
        refine z_if_eq (pc := 36) gX 58 dX0_fitting_36 (by decide) (fun c36 => ?_) (fun c36 => ?_)
        · skip
          have k36 : true = false := bI_eq0 c36
          exact absurd k36 (by decide)
        · skip
          have k36 : true = true := bI_ne0 c36
          refine z_aload_n (pc := 39) gX 0 dX0_fitting_39 rfl rfl ?_
          refine z_get (pc := 40) gX (zI_ok gX hAX) (zm 1 rfl) (ci := 0) (C := RX0) (T := TX0) (N := 14) rfl in_X0 5 (by decide) q214 (fun _ h => h) (v := .ref (sb 0)) rfl dX0_fitting_40 ?_
          refine z_iload_n (pc := 43) gX 2 dX0_fitting_43 rfl rfl ?_
          refine z_aload_n (pc := 44) gX 3 dX0_fitting_44 rfl rfl ?_
          refine z_cMS (pc := 45) gX hAX [.ref (sb 0), .int (nI j), .ref ta] [.int set] [9, 10, 11, 12, 13, 14, 8, 15] [0, 1, 2, 3, 4, 5, 6, 7] (fun A1 => met_X0_isSo l D B0 A1 sb wn zmd_26 zd_26 n (upd c 1 (nI v)) zod_26 ra T1 k ta mm tf j ((hG.mono hT).k.up (by omega)) (by omega) (by omega)) q1181 q1182 q47 q1183 hd_X0_isSo ⟨rfl, rfl⟩ ⟨(Nat.le_of_ble_eq_true rfl), (Nat.le_of_ble_eq_true rfl)⟩ rfl rfl (zpl 16 rfl (by decide +kernel)) rfl rfl (Nat.le_of_ble_eq_true rfl) ⟨(by first | decide | (simp only [zRm]; omega)), (by first | decide | (simp only [zRm]; omega))⟩ dX0_fitting_45 ?_
          intro u45 hu45
          obtain ⟨c1_45, od1_45, wn1_45⟩ := u45
          refine z_re [8, 9, 10, 11, 12, 13, 14, 15, 6, 0, 1, 2, 3, 4, 5, 7] [[(q, .inr (17, []))], cOb o ad (sa 0) (sb 0) tr x, [(sa 0, .inr (2, [.int (c 16), .int (c 1), .int (c 0), .int wn, .ref (sa 1), .ref (sa 2), .ref (sa 3), .ref (sa 4)]))], [(sa 1, .inr (16, [.int md, .ref d, .int (nI n)]))], [(sa 2, .inl (D.1 100, 7, .inl (fun i_ => c (9 + i_))))], [(sa 3, .inl (D.1 100, 7, .inl (fun i_ => c (2 + i_))))], [(sa 4, .inl (D.1 100, 7, .inl od))], [(d, .inl (D.1 104, 10, .inr (.inr (.inr (.inr (rF ra n))))))], [(ta, .inl (D.1 100, mm, .inl tf))], [(sb 0, .inr (2, [.int (c1_45 16), .int (c1_45 1), .int (c1_45 0), .int wn1_45, .ref (sb 1), .ref (sb 2), .ref (sb 3), .ref (sb 4)]))], [(sb 1, .inr (16, [.int zmd_26, .ref zd_26, .int (nI n)]))], [(sb 2, .inl (D.1 100, 7, .inl (fun i_ => c1_45 (9 + i_))))], [(sb 3, .inl (D.1 100, 7, .inl (fun i_ => c1_45 (2 + i_))))], [(sb 4, .inl (D.1 100, 7, .inl od1_45))], [(zd_26, .inl (D.1 104, 10, .inr (.inr (.inr (.inr (rF ra n))))))], T1] rfl (zpl 16 rfl (by decide +kernel)) ?_
          refine z_eq (lv₂ := [(0, .ref o), (1, .ref q), (2, .int (nI j)), (3, .ref ta), (4, .int set), (5, .int (nI v))]) (st₂ := [.int (bI (soP n k (upd c 1 (nI v)) j tf 0 mm)), .int set]) ?_ rfl rfl
          refine z_if_eq (pc := 48) gX 58 dX0_fitting_48 (by decide) (fun c48 => ?_) (fun c48 => ?_)
          · skip
            have k48 : (soP n k (upd c 1 (nI v)) j tf 0 mm) = false := bI_eq0 c48
            refine z_iconst (pc := 58) gX 0 dX0_fitting_58 (by decide) ?_
            refine z_ior (pc := 59) gX dX0_fitting_59 ?_
            refine z_istore (pc := 60) gX [1, 2, 3, 4, 0, 5] [(0, .ref o), (1, .ref q), (2, .int (nI j)), (3, .ref ta), (4, .int (set ||| 0)), (5, .int (nI v))] dX0_fitting_60 (by decide) rfl ?_
            refine z_ws [[(q, .inr (17, []))], cOb o ad (sa 0) (sb 0) tr x, [(sa 0, .inr (2, [.int (c 16), .int (c 1), .int (c 0), .int wn, .ref (sa 1), .ref (sa 2), .ref (sa 3), .ref (sa 4)]))], [(sa 1, .inr (16, [.int md, .ref d, .int (nI n)]))], [(sa 2, .inl (D.1 100, 7, .inl (fun i_ => c (9 + i_))))], [(sa 3, .inl (D.1 100, 7, .inl (fun i_ => c (2 + i_))))], [(sa 4, .inl (D.1 100, 7, .inl od))], [(d, .inl (D.1 104, 10, .inr (.inr (.inr (.inr (rF ra n))))))], [(ta, .inl (D.1 100, mm, .inl tf))], thP D sb ((some zd_26, n, ra), (zmd_26, wn1_45, od1_45), c1_45), T1] (List.Perm.refl _) ?_
            refine z_iinc (pc := 62) gX 5 (nI (v + 1)) [1, 2, 3, 4, 5, 0] [(0, .ref o), (1, .ref q), (2, .int (nI j)), (3, .ref ta), (4, .int (set ||| 0)), (5, .int (nI (v + 1)))] dX0_fitting_62 rfl (nI_1 _) (by decide) rfl ?_
            refine z_goto (pc := 65) gX 11 dX0_fitting_65 (by decide) ?_
            refine z_widen (k := 2 * (v + 1)) (n := 11 * (v + 1)) (by omega) (by omega) ?_
            exact ih11 (v + 1) (set ||| 0) ((some zd_26, n, ra), (zmd_26, wn1_45, od1_45), c1_45) T1 (by omega) (by omega) (by rw [orG_s (by omega), ← hv]; congr 1; simp only [ftF, mayW, layW, k36, k48, Bool.true_and, Bool.and_true, Bool.false_and, Bool.false_eq_true, if_true, if_false]) (tOK_g hG.2.1) hT (by omega)
          · skip
            have k48 : (soP n k (upd c 1 (nI v)) j tf 0 mm) = true := bI_ne0 c48
            refine z_iconst (pc := 51) gX 1 dX0_fitting_51 (by decide) ?_
            refine z_iload (pc := 52) gX 5 dX0_fitting_52 rfl ?_
            refine z_ishl (pc := 54) gX dX0_fitting_54 ?_
            refine z_goto (pc := 55) gX 59 dX0_fitting_55 (by decide) ?_
            refine z_ior (pc := 59) gX dX0_fitting_59 ?_
            refine z_istore (pc := 60) gX [1, 2, 3, 4, 0, 5] [(0, .ref o), (1, .ref q), (2, .int (nI j)), (3, .ref ta), (4, .int (set ||| (1 <<< ((nI v) &&& 31)))), (5, .int (nI v))] dX0_fitting_60 (by decide) rfl ?_
            refine z_ws [[(q, .inr (17, []))], cOb o ad (sa 0) (sb 0) tr x, [(sa 0, .inr (2, [.int (c 16), .int (c 1), .int (c 0), .int wn, .ref (sa 1), .ref (sa 2), .ref (sa 3), .ref (sa 4)]))], [(sa 1, .inr (16, [.int md, .ref d, .int (nI n)]))], [(sa 2, .inl (D.1 100, 7, .inl (fun i_ => c (9 + i_))))], [(sa 3, .inl (D.1 100, 7, .inl (fun i_ => c (2 + i_))))], [(sa 4, .inl (D.1 100, 7, .inl od))], [(d, .inl (D.1 104, 10, .inr (.inr (.inr (.inr (rF ra n))))))], [(ta, .inl (D.1 100, mm, .inl tf))], thP D sb ((some zd_26, n, ra), (zmd_26, wn1_45, od1_45), c1_45), T1] (List.Perm.refl _) ?_
            refine z_iinc (pc := 62) gX 5 (nI (v + 1)) [1, 2, 3, 4, 5, 0] [(0, .ref o), (1, .ref q), (2, .int (nI j)), (3, .ref ta), (4, .int (set ||| (1 <<< ((nI v) &&& 31)))), (5, .int (nI (v + 1)))] dX0_fitting_62 rfl (nI_1 _) (by decide) rfl ?_
            refine z_goto (pc := 65) gX 11 dX0_fitting_65 (by decide) ?_
            refine z_widen (k := 2 * (v + 1)) (n := 11 * (v + 1)) (by omega) (by omega) ?_
            exact ih11 (v + 1) (set ||| (1 <<< ((nI v) &&& 31))) ((some zd_26, n, ra), (zmd_26, wn1_45, od1_45), c1_45) T1 (by omega) (by omega) (by rw [orG_s (by omega), ← hv]; congr 1; simp only [ftF, mayW, layW, k36, k48, Bool.true_and, Bool.and_true, Bool.false_and, Bool.false_eq_true, if_true, if_false]) (tOK_g hG.2.1) hT (by omega)
  refine z_widen (k := 2 * 0) (n := 11 * 0) (by omega) (by omega) ?_
  exact L11 ((3 - 0) + 1) 0 0 ht T (by omega) (by omega) rfl ht0 (fun _ h => h) (Nat.lt_succ_self _)

set_option maxHeartbeats 4000000 in
theorem met_X0_fitting_3 (l : Launch) (D : va_G) (B0 : Nat) (A : Nat → Prop) (o : Nat) (ad : Nat → Nat) (sa : Nat → Nat) (sb : Nat → Nat) (tr : Nat) (x : Nat → Int32) (wn : Int32) (md : Int32) (d : Nat) (n : Nat) (c : Nat → Int32) (od : Nat → Int32) (ra : Nat → Nat) (T : va_W) (k : Nat) (ht : sT) (q : Nat) (ta : Nat) (mm : Nat) (tf : Nat → Int32) (j : Nat) (hG : gOK T n k ra c) (ht0 : tOK ht) (hj : j < n) (hm12 : mm ≤ 12) : Met l yX0_fitting (ws_ yX0_fitting cX0_fitting 6 (some .int)) (zRm 12 24 132) (va_Pc [.ref o, .ref q, .int (nI j), .ref ta] (zPre B0 D A [[(q, .inr (14, [.int (nI j), .ref o]))], cOb o ad (sa 0) (sb 0) tr x, [(sa 0, .inr (2, [.int (c 16), .int (c 1), .int (c 0), .int wn, .ref (sa 1), .ref (sa 2), .ref (sa 3), .ref (sa 4)]))], [(sa 1, .inr (16, [.int md, .ref d, .int (nI n)]))], [(sa 2, .inl (D.1 100, 7, .inl (fun i_ => c (9 + i_))))], [(sa 3, .inl (D.1 100, 7, .inl (fun i_ => c (2 + i_))))], [(sa 4, .inl (D.1 100, 7, .inl od))], [(d, .inl (D.1 104, 10, .inr (.inr (.inr (.inr (rF ra n))))))], [(ta, .inl (D.1 100, mm, .inl tf))], thP D sb ht, T])) (zQ (S := sT × va_W) (fun u => (fun (ht1 : sT) (T1 : va_W) => tOK ht1 ∧ (∀ z ∈ T, z ∈ T1)) u.1 u.2) (fun u => (fun (ht1 : sT) (T1 : va_W) => some (.int (ftS 3 n k c j tf 0 mm))) u.1 u.2) (fun u => (fun (ht1 : sT) (T1 : va_W) => [[(q, .inr (14, [.int (nI j), .ref o]))], cOb o ad (sa 0) (sb 0) tr x, [(sa 0, .inr (2, [.int (c 16), .int (c 1), .int (c 0), .int wn, .ref (sa 1), .ref (sa 2), .ref (sa 3), .ref (sa 4)]))], [(sa 1, .inr (16, [.int md, .ref d, .int (nI n)]))], [(sa 2, .inl (D.1 100, 7, .inl (fun i_ => c (9 + i_))))], [(sa 3, .inl (D.1 100, 7, .inl (fun i_ => c (2 + i_))))], [(sa 4, .inl (D.1 100, 7, .inl od))], [(d, .inl (D.1 104, 10, .inr (.inr (.inr (.inr (rF ra n))))))], [(ta, .inl (D.1 100, mm, .inl tf))], thP D sb ht1, T1]) u.1 u.2) D A) 24 132 A := by
  refine z_entry (by decide +kernel) (Nat.le_of_ble_eq_true rfl) (fun pX eX sX mX argsX blX mtX cX QX hQX gX hAX hnm => ?_)
  refine z_eq (lv₂ := [(0, .ref o), (1, .ref q), (2, .int (nI j)), (3, .ref ta)]) (st₂ := []) ?_ rfl rfl
  have hn7 := hG.2.1
  have hk12 := hG.2.2.2.2.2.1
  have hk4 := hG.2.2.2.2.1
  refine z_iconst (pc := 0) gX 0 dX0_fitting_0 (by decide) ?_
  refine z_istore (pc := 1) gX [1, 2, 3, 4, 0] [(0, .ref o), (1, .ref q), (2, .int (nI j)), (3, .ref ta), (4, .int 0)] dX0_fitting_1 (by decide) rfl ?_
  refine z_aload_n (pc := 3) gX 1 dX0_fitting_3 rfl rfl ?_
  refine z_cOFD (n := 0) (pc := 4) gX (zI_ok gX hAX) [] [] [] (met_X18_lowU l D B0 q ) q1102 q1107 (gX.zk.lands (fun _ _ h => flat_of_before _ h _ (by decide +kernel))) (gX.zk.face ⟨by decide +kernel, by decide +kernel⟩ q1104 q1103 q1108 q1120 q1119) (by unfold zHd; decide +kernel) q1109 (zm 0 rfl) (ci := 14) rfl ⟨rfl, rfl⟩ ⟨(Nat.le_of_ble_eq_true rfl), (Nat.le_of_ble_eq_true rfl)⟩ rfl rfl rfl (Nat.le_of_ble_eq_true rfl) ⟨(Nat.le_of_ble_eq_true rfl), (Nat.le_of_ble_eq_true rfl)⟩ dX0_fitting_4 ?_
  intro _ hu4
  refine z_eq (lv₂ := [(0, .ref o), (1, .ref q), (2, .int (nI j)), (3, .ref ta), (4, .int 0)]) (st₂ := [.int 0]) ?_ rfl rfl
  refine z_top 0 rfl ?_
  refine z_istore (pc := 9) gX [1, 2, 3, 4, 5, 0] [(0, .ref o), (1, .ref q), (2, .int (nI j)), (3, .ref ta), (4, .int 0), (5, .int 0)] dX0_fitting_9 (by decide) rfl ?_
  have L11 : ∀ (n11 : Nat) (v : Nat) (set : Int32) (ht2 : sT) (T1 : va_W), (0 ≤ v) → (v ≤ k) → (set = orG (ftF 3 n k c j tf 0 mm) 0 (v - 0)) → (tOK ht2) → (∀ z ∈ T, z ∈ T1) → k - v < n11 → zJ pX l eX (zRm 12 24 132) sX mX argsX blX mtX cX QX 6 (zI D A sX [[(q, .inr (14, [.int (nI j), .ref o]))], cOb o ad (sa 0) (sb 0) tr x, [(sa 0, .inr (2, [.int (c 16), .int (c 1), .int (c 0), .int wn, .ref (sa 1), .ref (sa 2), .ref (sa 3), .ref (sa 4)]))], [(sa 1, .inr (16, [.int md, .ref d, .int (nI n)]))], [(sa 2, .inl (D.1 100, 7, .inl (fun i_ => c (9 + i_))))], [(sa 3, .inl (D.1 100, 7, .inl (fun i_ => c (2 + i_))))], [(sa 4, .inl (D.1 100, 7, .inl od))], [(d, .inl (D.1 104, 10, .inr (.inr (.inr (.inr (rF ra n))))))], [(ta, .inl (D.1 100, mm, .inl tf))], thP D sb ht2, T1]) (2 * v) (11 * v) 11 [(0, .ref o), (1, .ref q), (2, .int (nI j)), (3, .ref ta), (4, .int set), (5, .int (nI v))] [] := by
    intro n11
    induction n11 with
    | zero => exact fun v set ht2 T1 hlo hhi hv ht2o hT hm11 => absurd hm11 (Nat.not_lt_zero _)
    | succ n11 ih11 =>
      intro v set ht2 T1 hlo hhi hv ht2o hT hm11
      refine z_iload (pc := 11) gX 5 dX0_fitting_11 rfl ?_
      refine z_aload_n (pc := 13) gX 1 dX0_fitting_13 rfl rfl ?_
      refine z_cOF (n := 0) (pc := 14) gX (zI_ok gX hAX) [] [.int (nI v)] [0, 1, 2] (met_X16_high l D B0 o ad sa sb tr x q j c wn ) q1122 q1142 q1140 q85 (gX.zk.face ⟨by decide +kernel, by decide +kernel⟩ q1124 q1123 q1143 q1141 q1119) (by unfold zHd; decide +kernel) q1144 (zm 0 rfl) (ci := 14) rfl ⟨rfl, rfl⟩ ⟨(Nat.le_of_ble_eq_true rfl), (Nat.le_of_ble_eq_true rfl)⟩ rfl rfl rfl (Nat.le_of_ble_eq_true rfl) ⟨(by first | decide | (simp only [zRm]; omega)), (by first | decide | (simp only [zRm]; omega))⟩ dX0_fitting_14 ?_
      intro _ hu14
      refine z_eq (lv₂ := [(0, .ref o), (1, .ref q), (2, .int (nI j)), (3, .ref ta), (4, .int set), (5, .int (nI v))]) (st₂ := [.int (c 16 - 1), .int (nI v)]) ?_ rfl rfl
      refine z_top (nI (k - 1)) (by rw [hG.2.2.2.1]; exact pk_sub (show 1 ≤ k by omega)) ?_
      refine z_icmp_gt (pc := 19) gX 68 dX0_fitting_19 (by decide) (fun c19 => ?_) (fun c19 => ?_)
      · skip
        have k19 : k - 1 < v := (zn_lt (a := k - 1) (b := v) (by omega) (by omega)).mp c19
        refine z_iload (pc := 68) gX 4 dX0_fitting_68 rfl ?_
        exact z_rim gX hQX (ht2, T1) (⟨ht2o, hT⟩) (zsv (by rw [hv, show v = k by omega]; rfl)) rfl (by first | decide | omega) (by first | decide | omega) dX0_fitting_70
      · skip
        have k19 : v ≤ k - 1 := (zn_nlt (a := k - 1) (b := v) (by omega) (by omega)).mp c19
        refine z_iload (pc := 22) gX 4 dX0_fitting_22 rfl ?_
        refine z_aload_n (pc := 24) gX 1 dX0_fitting_24 rfl rfl ?_
        refine z_aload_n (pc := 25) gX 0 dX0_fitting_25 rfl rfl ?_
        refine z_cMV (pc := 26) gX hAX [] [.ref q, .int set] [1, 2, 3, 4, 5, 6, 7, 9, 10] [0, 8] (fun A1 => met_X0_asNow l D B0 A1 o ad sa sb tr x wn md d n c od ra T1 k ht2 (hG.mono hT) ht2o) q986 q988 qs23 q47 q989 (zm 1 rfl) (ci := 0) rfl rfl hd_X0_asNow ⟨rfl, rfl⟩ ⟨(Nat.le_of_ble_eq_true rfl), (Nat.le_of_ble_eq_true rfl)⟩ rfl rfl (zpl 11 rfl (by decide +kernel)) rfl rfl (Nat.le_of_ble_eq_true rfl) ⟨(by first | decide | (simp only [zRm]; omega)), (by first | decide | (simp only [zRm]; omega))⟩ dX0_fitting_26 ?_
        intro u26 hu26
        obtain ⟨zmd_26, zd_26, zod_26⟩ := u26
        refine z_re [14, 0, 1, 2, 3, 4, 5, 6, 15, 7, 9, 10, 11, 12, 13, 8] [[(q, .inr (14, [.int (nI j), .ref o]))], cOb o ad (sa 0) (sb 0) tr x, [(sa 0, .inr (2, [.int (c 16), .int (c 1), .int (c 0), .int wn, .ref (sa 1), .ref (sa 2), .ref (sa 3), .ref (sa 4)]))], [(sa 1, .inr (16, [.int md, .ref d, .int (nI n)]))], [(sa 2, .inl (D.1 100, 7, .inl (fun i_ => c (9 + i_))))], [(sa 3, .inl (D.1 100, 7, .inl (fun i_ => c (2 + i_))))], [(sa 4, .inl (D.1 100, 7, .inl od))], [(d, .inl (D.1 104, 10, .inr (.inr (.inr (.inr (rF ra n))))))], [(ta, .inl (D.1 100, mm, .inl tf))], [(sb 0, .inr (2, [.int (c 16), .int (c 1), .int (c 0), .int wn, .ref (sb 1), .ref (sb 2), .ref (sb 3), .ref (sb 4)]))], [(sb 1, .inr (16, [.int zmd_26, .ref zd_26, .int (nI n)]))], [(sb 2, .inl (D.1 100, 7, .inl (fun i_ => c (9 + i_))))], [(sb 3, .inl (D.1 100, 7, .inl (fun i_ => c (2 + i_))))], [(sb 4, .inl (D.1 100, 7, .inl zod_26))], [(zd_26, .inl (D.1 104, 10, .inr (.inr (.inr (.inr (rF ra n))))))], T1] rfl (zpl 16 rfl (by decide +kernel)) ?_
        refine z_norm [[(q, .inr (14, [.int (nI j), .ref o]))], cOb o ad (sa 0) (sb 0) tr x, [(sa 0, .inr (2, [.int (c 16), .int (c 1), .int (c 0), .int wn, .ref (sa 1), .ref (sa 2), .ref (sa 3), .ref (sa 4)]))], [(sa 1, .inr (16, [.int md, .ref d, .int (nI n)]))], [(sa 2, .inl (D.1 100, 7, .inl (fun i_ => c (9 + i_))))], [(sa 3, .inl (D.1 100, 7, .inl (fun i_ => c (2 + i_))))], [(sa 4, .inl (D.1 100, 7, .inl od))], [(d, .inl (D.1 104, 10, .inr (.inr (.inr (.inr (rF ra n))))))], [(ta, .inl (D.1 100, mm, .inl tf))], [(sb 0, .inr (2, [.int (c 16), .int (c 1), .int (c 0), .int wn, .ref (sb 1), .ref (sb 2), .ref (sb 3), .ref (sb 4)]))], [(sb 1, .inr (16, [.int zmd_26, .ref zd_26, .int (nI n)]))], [(sb 2, .inl (D.1 100, 7, .inl (fun i_ => c (9 + i_))))], [(sb 3, .inl (D.1 100, 7, .inl (fun i_ => c (2 + i_))))], [(sb 4, .inl (D.1 100, 7, .inl zod_26))], [(zd_26, .inl (D.1 104, 10, .inr (.inr (.inr (.inr (rF ra n))))))], T1] (2 * v + 1) (11 * v + 10) ?_ rfl rfl rfl
        refine z_eq (lv₂ := [(0, .ref o), (1, .ref q), (2, .int (nI j)), (3, .ref ta), (4, .int set), (5, .int (nI v))]) (st₂ := [.ref (sb 0), .ref q, .int set]) ?_ rfl rfl
        refine z_iload (pc := 29) gX 5 dX0_fitting_29 rfl ?_
        refine z_cMF (n := 2) (pc := 31) gX hAX [.ref (sb 0), .int (nI v)] [.int set] [0, 9, 10, 11, 12, 13, 14, 15] [1, 2, 3, 4, 5, 6, 7, 8] (fun A1 => met_X16_lay l D B0 A1 q sb wn zmd_26 zd_26 n c zod_26 ra T1 k j v o ((hG.mono hT).k) hj) q1146 q1176 q1174 q85 (gX.zk.face ⟨by decide +kernel, by decide +kernel⟩ q1148 q1147 q1177 q1175 q1119) (by unfold zHd; decide +kernel) q1178 (zm 0 rfl) (ci := 14) rfl ⟨rfl, rfl⟩ ⟨(Nat.le_of_ble_eq_true rfl), (Nat.le_of_ble_eq_true rfl)⟩ rfl rfl (zpl 16 rfl (by decide +kernel)) rfl rfl (Nat.le_of_ble_eq_true rfl) ⟨(by first | decide | (simp only [zRm]; omega)), (by first | decide | (simp only [zRm]; omega))⟩ dX0_fitting_31 ?_
        intro _ hu31
        refine z_re [0, 8, 9, 10, 11, 12, 13, 14, 15, 1, 2, 3, 4, 5, 6, 7] [[(q, .inr (14, [.int (nI j), .ref o]))], cOb o ad (sa 0) (sb 0) tr x, [(sa 0, .inr (2, [.int (c 16), .int (c 1), .int (c 0), .int wn, .ref (sa 1), .ref (sa 2), .ref (sa 3), .ref (sa 4)]))], [(sa 1, .inr (16, [.int md, .ref d, .int (nI n)]))], [(sa 2, .inl (D.1 100, 7, .inl (fun i_ => c (9 + i_))))], [(sa 3, .inl (D.1 100, 7, .inl (fun i_ => c (2 + i_))))], [(sa 4, .inl (D.1 100, 7, .inl od))], [(d, .inl (D.1 104, 10, .inr (.inr (.inr (.inr (rF ra n))))))], [(ta, .inl (D.1 100, mm, .inl tf))], [(sb 0, .inr (2, [.int ((upd c (2 + j) (nI v)) 16), .int ((upd c (2 + j) (nI v)) 1), .int ((upd c (2 + j) (nI v)) 0), .int wn, .ref (sb 1), .ref (sb 2), .ref (sb 3), .ref (sb 4)]))], [(sb 1, .inr (16, [.int zmd_26, .ref zd_26, .int (nI n)]))], [(sb 2, .inl (D.1 100, 7, .inl (fun i_ => (upd c (2 + j) (nI v)) (9 + i_))))], [(sb 3, .inl (D.1 100, 7, .inl (fun i_ => (upd c (2 + j) (nI v)) (2 + i_))))], [(sb 4, .inl (D.1 100, 7, .inl zod_26))], [(zd_26, .inl (D.1 104, 10, .inr (.inr (.inr (.inr (rF ra n))))))], T1] rfl (zpl 16 rfl (by decide +kernel)) ?_
        refine z_eq (lv₂ := [(0, .ref o), (1, .ref q), (2, .int (nI j)), (3, .ref ta), (4, .int set), (5, .int (nI v))]) (st₂ := [.int (bI (mOn (c (2 + j)) && mFreeTo c j (nI v) (c (9 + j)) n)), .int set]) ?_ rfl rfl
        refine z_if_eq (pc := 36) gX 58 dX0_fitting_36 (by decide) (fun c36 => ?_) (fun c36 => ?_)
        · skip
          have k36 : (mOn (c (2 + j)) && mFreeTo c j (nI v) (c (9 + j)) n) = false := bI_eq0 c36
          refine z_iconst (pc := 58) gX 0 dX0_fitting_58 (by decide) ?_
          refine z_ior (pc := 59) gX dX0_fitting_59 ?_
          refine z_istore (pc := 60) gX [1, 2, 3, 4, 0, 5] [(0, .ref o), (1, .ref q), (2, .int (nI j)), (3, .ref ta), (4, .int (set ||| 0)), (5, .int (nI v))] dX0_fitting_60 (by decide) rfl ?_
          refine z_ws [[(q, .inr (14, [.int (nI j), .ref o]))], cOb o ad (sa 0) (sb 0) tr x, [(sa 0, .inr (2, [.int (c 16), .int (c 1), .int (c 0), .int wn, .ref (sa 1), .ref (sa 2), .ref (sa 3), .ref (sa 4)]))], [(sa 1, .inr (16, [.int md, .ref d, .int (nI n)]))], [(sa 2, .inl (D.1 100, 7, .inl (fun i_ => c (9 + i_))))], [(sa 3, .inl (D.1 100, 7, .inl (fun i_ => c (2 + i_))))], [(sa 4, .inl (D.1 100, 7, .inl od))], [(d, .inl (D.1 104, 10, .inr (.inr (.inr (.inr (rF ra n))))))], [(ta, .inl (D.1 100, mm, .inl tf))], thP D sb ((some zd_26, n, ra), (zmd_26, wn, zod_26), upd c (2 + j) (nI v)), T1] (List.Perm.refl _) ?_
          refine z_iinc (pc := 62) gX 5 (nI (v + 1)) [1, 2, 3, 4, 5, 0] [(0, .ref o), (1, .ref q), (2, .int (nI j)), (3, .ref ta), (4, .int (set ||| 0)), (5, .int (nI (v + 1)))] dX0_fitting_62 rfl (nI_1 _) (by decide) rfl ?_
          refine z_goto (pc := 65) gX 11 dX0_fitting_65 (by decide) ?_
          refine z_widen (k := 2 * (v + 1)) (n := 11 * (v + 1)) (by omega) (by omega) ?_
          exact ih11 (v + 1) (set ||| 0) ((some zd_26, n, ra), (zmd_26, wn, zod_26), upd c (2 + j) (nI v)) T1 (by omega) (by omega) (by rw [orG_s (by omega), ← hv]; congr 1; simp only [ftF, mayW, layW, k36, Bool.true_and, Bool.and_true, Bool.false_and, Bool.false_eq_true, if_true, if_false]) (tOK_g hG.2.1) hT (by omega)
        · skip
          have k36 : (mOn (c (2 + j)) && mFreeTo c j (nI v) (c (9 + j)) n) = true := bI_ne0 c36
          refine z_aload_n (pc := 39) gX 0 dX0_fitting_39 rfl rfl ?_
          refine z_get (pc := 40) gX (zI_ok gX hAX) (zm 1 rfl) (ci := 0) (C := RX0) (T := TX0) (N := 14) rfl in_X0 5 (by decide) q214 (fun _ h => h) (v := .ref (sb 0)) rfl dX0_fitting_40 ?_
          refine z_iload_n (pc := 43) gX 2 dX0_fitting_43 rfl rfl ?_
          refine z_aload_n (pc := 44) gX 3 dX0_fitting_44 rfl rfl ?_
          refine z_cMS (pc := 45) gX hAX [.ref (sb 0), .int (nI j), .ref ta] [.int set] [9, 10, 11, 12, 13, 14, 8, 15] [0, 1, 2, 3, 4, 5, 6, 7] (fun A1 => met_X0_isSo l D B0 A1 sb wn zmd_26 zd_26 n (upd c (2 + j) (nI v)) zod_26 ra T1 k ta mm tf j ((hG.mono hT).k.up (by omega)) (by omega) (by omega)) q1181 q1182 q47 q1183 hd_X0_isSo ⟨rfl, rfl⟩ ⟨(Nat.le_of_ble_eq_true rfl), (Nat.le_of_ble_eq_true rfl)⟩ rfl rfl (zpl 16 rfl (by decide +kernel)) rfl rfl (Nat.le_of_ble_eq_true rfl) ⟨(by first | decide | (simp only [zRm]; omega)), (by first | decide | (simp only [zRm]; omega))⟩ dX0_fitting_45 ?_
          intro u45 hu45
          obtain ⟨c1_45, od1_45, wn1_45⟩ := u45
          refine z_re [8, 9, 10, 11, 12, 13, 14, 15, 6, 0, 1, 2, 3, 4, 5, 7] [[(q, .inr (14, [.int (nI j), .ref o]))], cOb o ad (sa 0) (sb 0) tr x, [(sa 0, .inr (2, [.int (c 16), .int (c 1), .int (c 0), .int wn, .ref (sa 1), .ref (sa 2), .ref (sa 3), .ref (sa 4)]))], [(sa 1, .inr (16, [.int md, .ref d, .int (nI n)]))], [(sa 2, .inl (D.1 100, 7, .inl (fun i_ => c (9 + i_))))], [(sa 3, .inl (D.1 100, 7, .inl (fun i_ => c (2 + i_))))], [(sa 4, .inl (D.1 100, 7, .inl od))], [(d, .inl (D.1 104, 10, .inr (.inr (.inr (.inr (rF ra n))))))], [(ta, .inl (D.1 100, mm, .inl tf))], [(sb 0, .inr (2, [.int (c1_45 16), .int (c1_45 1), .int (c1_45 0), .int wn1_45, .ref (sb 1), .ref (sb 2), .ref (sb 3), .ref (sb 4)]))], [(sb 1, .inr (16, [.int zmd_26, .ref zd_26, .int (nI n)]))], [(sb 2, .inl (D.1 100, 7, .inl (fun i_ => c1_45 (9 + i_))))], [(sb 3, .inl (D.1 100, 7, .inl (fun i_ => c1_45 (2 + i_))))], [(sb 4, .inl (D.1 100, 7, .inl od1_45))], [(zd_26, .inl (D.1 104, 10, .inr (.inr (.inr (.inr (rF ra n))))))], T1] rfl (zpl 16 rfl (by decide +kernel)) ?_
          refine z_eq (lv₂ := [(0, .ref o), (1, .ref q), (2, .int (nI j)), (3, .ref ta), (4, .int set), (5, .int (nI v))]) (st₂ := [.int (bI (soP n k (upd c (2 + j) (nI v)) j tf 0 mm)), .int set]) ?_ rfl rfl
          refine z_if_eq (pc := 48) gX 58 dX0_fitting_48 (by decide) (fun c48 => ?_) (fun c48 => ?_)
          · skip
            have k48 : (soP n k (upd c (2 + j) (nI v)) j tf 0 mm) = false := bI_eq0 c48
            refine z_iconst (pc := 58) gX 0 dX0_fitting_58 (by decide) ?_
            refine z_ior (pc := 59) gX dX0_fitting_59 ?_
            refine z_istore (pc := 60) gX [1, 2, 3, 4, 0, 5] [(0, .ref o), (1, .ref q), (2, .int (nI j)), (3, .ref ta), (4, .int (set ||| 0)), (5, .int (nI v))] dX0_fitting_60 (by decide) rfl ?_
            refine z_ws [[(q, .inr (14, [.int (nI j), .ref o]))], cOb o ad (sa 0) (sb 0) tr x, [(sa 0, .inr (2, [.int (c 16), .int (c 1), .int (c 0), .int wn, .ref (sa 1), .ref (sa 2), .ref (sa 3), .ref (sa 4)]))], [(sa 1, .inr (16, [.int md, .ref d, .int (nI n)]))], [(sa 2, .inl (D.1 100, 7, .inl (fun i_ => c (9 + i_))))], [(sa 3, .inl (D.1 100, 7, .inl (fun i_ => c (2 + i_))))], [(sa 4, .inl (D.1 100, 7, .inl od))], [(d, .inl (D.1 104, 10, .inr (.inr (.inr (.inr (rF ra n))))))], [(ta, .inl (D.1 100, mm, .inl tf))], thP D sb ((some zd_26, n, ra), (zmd_26, wn1_45, od1_45), c1_45), T1] (List.Perm.refl _) ?_
            refine z_iinc (pc := 62) gX 5 (nI (v + 1)) [1, 2, 3, 4, 5, 0] [(0, .ref o), (1, .ref q), (2, .int (nI j)), (3, .ref ta), (4, .int (set ||| 0)), (5, .int (nI (v + 1)))] dX0_fitting_62 rfl (nI_1 _) (by decide) rfl ?_
            refine z_goto (pc := 65) gX 11 dX0_fitting_65 (by decide) ?_
            refine z_widen (k := 2 * (v + 1)) (n := 11 * (v + 1)) (by omega) (by omega) ?_
            exact ih11 (v + 1) (set ||| 0) ((some zd_26, n, ra), (zmd_26, wn1_45, od1_45), c1_45) T1 (by omega) (by omega) (by rw [orG_s (by omega), ← hv]; congr 1; simp only [ftF, mayW, layW, k36, k48, Bool.true_and, Bool.and_true, Bool.false_and, Bool.false_eq_true, if_true, if_false]) (tOK_g hG.2.1) hT (by omega)
          · skip
            have k48 : (soP n k (upd c (2 + j) (nI v)) j tf 0 mm) = true := bI_ne0 c48
            refine z_iconst (pc := 51) gX 1 dX0_fitting_51 (by decide) ?_
            refine z_iload (pc := 52) gX 5 dX0_fitting_52 rfl ?_
            refine z_ishl (pc := 54) gX dX0_fitting_54 ?_
            refine z_goto (pc := 55) gX 59 dX0_fitting_55 (by decide) ?_
            refine z_ior (pc := 59) gX dX0_fitting_59 ?_
            refine z_istore (pc := 60) gX [1, 2, 3, 4, 0, 5] [(0, .ref o), (1, .ref q), (2, .int (nI j)), (3, .ref ta), (4, .int (set ||| (1 <<< ((nI v) &&& 31)))), (5, .int (nI v))] dX0_fitting_60 (by decide) rfl ?_
            refine z_ws [[(q, .inr (14, [.int (nI j), .ref o]))], cOb o ad (sa 0) (sb 0) tr x, [(sa 0, .inr (2, [.int (c 16), .int (c 1), .int (c 0), .int wn, .ref (sa 1), .ref (sa 2), .ref (sa 3), .ref (sa 4)]))], [(sa 1, .inr (16, [.int md, .ref d, .int (nI n)]))], [(sa 2, .inl (D.1 100, 7, .inl (fun i_ => c (9 + i_))))], [(sa 3, .inl (D.1 100, 7, .inl (fun i_ => c (2 + i_))))], [(sa 4, .inl (D.1 100, 7, .inl od))], [(d, .inl (D.1 104, 10, .inr (.inr (.inr (.inr (rF ra n))))))], [(ta, .inl (D.1 100, mm, .inl tf))], thP D sb ((some zd_26, n, ra), (zmd_26, wn1_45, od1_45), c1_45), T1] (List.Perm.refl _) ?_
            refine z_iinc (pc := 62) gX 5 (nI (v + 1)) [1, 2, 3, 4, 5, 0] [(0, .ref o), (1, .ref q), (2, .int (nI j)), (3, .ref ta), (4, .int (set ||| (1 <<< ((nI v) &&& 31)))), (5, .int (nI (v + 1)))] dX0_fitting_62 rfl (nI_1 _) (by decide) rfl ?_
            refine z_goto (pc := 65) gX 11 dX0_fitting_65 (by decide) ?_
            refine z_widen (k := 2 * (v + 1)) (n := 11 * (v + 1)) (by omega) (by omega) ?_
            exact ih11 (v + 1) (set ||| (1 <<< ((nI v) &&& 31))) ((some zd_26, n, ra), (zmd_26, wn1_45, od1_45), c1_45) T1 (by omega) (by omega) (by rw [orG_s (by omega), ← hv]; congr 1; simp only [ftF, mayW, layW, k36, k48, Bool.true_and, Bool.and_true, Bool.false_and, Bool.false_eq_true, if_true, if_false]) (tOK_g hG.2.1) hT (by omega)
  refine z_widen (k := 2 * 0) (n := 11 * 0) (by omega) (by omega) ?_
  exact L11 ((k - 0) + 1) 0 0 ht T (by omega) (by omega) rfl ht0 (fun _ h => h) (Nat.lt_succ_self _)

