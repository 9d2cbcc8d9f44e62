set_option maxRecDepth 100000
/-! isSo; what may be otherwise: Sorts, Sides, Speeds, Starts -/
theorem so_false {n k : Nat} {c : Nat → Int32} {j : Nat} {it : Nat → Int32} {fr i : Nat} (h : soP n k c j it fr i = false) : ∀ m, i ≤ m → soP n k c j it fr m = false
  | 0, hm => by rw [show i = 0 by omega] at h; exact h
  | m + 1, hm => by
    rcases (show i ≤ m ∨ i = m + 1 by omega) with e | e
    · simp only [soP, so_false h m e, Bool.false_and]
    · rw [← e]; exact h
theorem so_congr {n k : Nat} {c : Nat → Int32} {j : Nat} {it it2 : Nat → Int32} {fr fr2 : Nat} : ∀ m, (∀ i, i < m → it (fr + i) = it2 (fr2 + i)) → soP n k c j it fr m = soP n k c j it2 fr2 m
  | 0, _ => rfl
  | m + 1, h => by simp only [soP]; rw [so_congr m (fun i hi => h i (by omega)), h m (by omega)]
def raU (ra : Nat → Nat) (j q : Nat) : Nat → Nat := fun i => if i = j then q else ra i
theorem rF_up {ra : Nat → Nat} {n j q : Nat} (h : j < n) : va_up (rF ra n) j (some q) = rF (raU ra j q) n := by
  funext i
  simp only [va_up, rF, raU]
  by_cases e : i = j
  · rw [if_pos e, if_pos (by omega), if_pos e]
  · simp only [if_neg e]
theorem pool_cons {x : Nat × va_E} {T : va_W} : [[x], T].flatten.Perm (x :: T) := by simp
theorem rOK.mono {T T2 : va_W} {n : Nat} {ra : Nat → Nat} {kd : Nat → Int32} (h : rOK T n ra kd) (hT : ∀ x ∈ T, x ∈ T2) : rOK T2 n ra kd := fun i hi => by
  obtain ⟨k, h1, h2, h3, h4⟩ := h i hi
  exact ⟨k, h1, h2, h3, hT _ h4⟩
theorem gOK.mono {T T2 : va_W} {n k : Nat} {ra : Nat → Nat} {c : Nat → Int32} (h : gOK T n k ra c) (hT : ∀ x ∈ T, x ∈ T2) : gOK T2 n k ra c := ⟨h.1, h.2.1, h.2.2.1, h.2.2.2.1, h.2.2.2.2.1, h.2.2.2.2.2.1, h.2.2.2.2.2.2.1, h.2.2.2.2.2.2.2.mono hT⟩
theorem kOK.mono {T T2 : va_W} {n k : Nat} {ra : Nat → Nat} {c : Nat → Int32} (h : kOK T n k ra c) (hT : ∀ x ∈ T, x ∈ T2) : kOK T2 n k ra c := ⟨h.1, h.2.1, h.2.2.1, h.2.2.2.1, h.2.2.2.2.1, h.2.2.2.2.2.mono hT⟩
theorem kOK_sort {T : va_W} {n k : Nat} {ra : Nat → Nat} {c : Nat → Int32} {j q v : Nat} (h : kOK T n k ra c) (h1 : 1 ≤ v) (h5 : v ≤ 5) : kOK ((q, .inr (6 + v, [.int (nI j)])) :: T) n k (raU ra j q) (upd c (18 + j) (nI v)) := by
  refine ⟨h.1, (pk_un (by omega)).trans h.2.1, (pk_un (by omega)).trans h.2.2.1, h.2.2.2.1, fun z hz => ?_, fun i hi => ?_⟩
  · have := h.1; rw [pk_un (by omega)]; exact h.2.2.2.2.1 z hz
  · by_cases e : i = j
    · subst e
      exact ⟨v, h1, h5, pk_us, by rw [show raU ra i q i = q from if_pos rfl]; exact List.mem_cons_self⟩
    · obtain ⟨kk, g1, g2, g3, g4⟩ := h.2.2.2.2.2 i hi
      refine ⟨kk, g1, g2, (pk_un (show 18 + i ≠ 18 + j by omega)).trans g3, ?_⟩
      rw [show raU ra j q i = ra i from if_neg e]
      exact List.mem_cons_of_mem _ g4

set_option maxHeartbeats 4000000 in
theorem met_X0_isSo (l : Launch) (D : va_G) (B0 : Nat) (A : Nat → Prop) (sa : Nat → Nat) (wn : Int32) (md : Int32) (d : Nat) (n : Nat) (c : Nat → Int32) (od : Nat → Int32) (ra : Nat → Nat) (T : va_W) (k : Nat) (ta : Nat) (m : Nat) (tf : Nat → Int32) (j : Nat) (hK : kOK T n k ra c) (hj : j < 7) (hm : m ≤ 100) : Met l yX0_isSo (ws_ yX0_isSo cX0_isSo 4 (some .boolean)) (zRm 10 0 0) (va_Pc [.ref (sa 0), .int (nI j), .ref ta] (zPre B0 D A [[(sa 0, .inr (2, [.int (c 16), .int (c 1), .int (c 0), .int wn, .ref (sa 1), .ref (sa 2), .ref (sa 3), .ref (sa 4)]))], [(sa 1, .inr (16, [.int md, .ref d, .int (nI n)]))], [(sa 2, .inl (D.1 100, 7, .inl (fun i_ => c (9 + i_))))], [(sa 3, .inl (D.1 100, 7, .inl (fun i_ => c (2 + i_))))], [(sa 4, .inl (D.1 100, 7, .inl od))], [(d, .inl (D.1 104, 10, .inr (.inr (.inr (.inr (rF ra n))))))], [(ta, .inl (D.1 100, m, .inl tf))], T])) (zQ (S := (Nat → Int32) × (Nat → Int32) × Int32) (fun u => (fun (c1 : Nat → Int32) (od1 : Nat → Int32) (wn1 : Int32) => True) u.1 u.2.1 u.2.2) (fun u => (fun (c1 : Nat → Int32) (od1 : Nat → Int32) (wn1 : Int32) => some (.int (bI (soP n k c j tf 0 m)))) u.1 u.2.1 u.2.2) (fun u => (fun (c1 : Nat → Int32) (od1 : Nat → Int32) (wn1 : Int32) => [[(sa 0, .inr (2, [.int (c1 16), .int (c1 1), .int (c1 0), .int wn1, .ref (sa 1), .ref (sa 2), .ref (sa 3), .ref (sa 4)]))], [(sa 1, .inr (16, [.int md, .ref d, .int (nI n)]))], [(sa 2, .inl (D.1 100, 7, .inl (fun i_ => c1 (9 + i_))))], [(sa 3, .inl (D.1 100, 7, .inl (fun i_ => c1 (2 + i_))))], [(sa 4, .inl (D.1 100, 7, .inl od1))], [(d, .inl (D.1 104, 10, .inr (.inr (.inr (.inr (rF ra n))))))], [(ta, .inl (D.1 100, m, .inl tf))], T]) u.1 u.2.1 u.2.2) D A) 0 0 A := by
  refine z_entry (by decide +kernel) (Nat.le_of_ble_eq_true rfl) (fun pX eX sX mX argsX blX mtX cX QX hQX gX hAX hnm => ?_)
  refine z_eq (lv₂ := [(0, .ref (sa 0)), (1, .int (nI j)), (2, .ref ta)]) (st₂ := []) ?_ rfl rfl
  refine z_iconst (pc := 0) gX 0 dX0_isSo_0 (by decide) ?_
  refine z_istore_n (pc := 1) gX [1, 2, 3, 0] [(0, .ref (sa 0)), (1, .int (nI j)), (2, .ref ta), (3, .int 0)] dX0_isSo_1 rfl (by decide) rfl ?_
  have L2 : ∀ (n2 : Nat) (i : Nat) (c1 : Nat → Int32) (od1 : Nat → Int32) (wn1 : Int32), (i ≤ m) → (kOK T n k ra c1) → (c1 = itT n k c i) → (soP n k c j tf 0 i = true) → m - i < n2 → zJ pX l eX (zRm 10 0 0) sX mX argsX blX mtX cX QX 4 (zI D A sX [[(sa 0, .inr (2, [.int (c1 16), .int (c1 1), .int (c1 0), .int wn1, .ref (sa 1), .ref (sa 2), .ref (sa 3), .ref (sa 4)]))], [(sa 1, .inr (16, [.int md, .ref d, .int (nI n)]))], [(sa 2, .inl (D.1 100, 7, .inl (fun i_ => c1 (9 + i_))))], [(sa 3, .inl (D.1 100, 7, .inl (fun i_ => c1 (2 + i_))))], [(sa 4, .inl (D.1 100, 7, .inl od1))], [(d, .inl (D.1 104, 10, .inr (.inr (.inr (.inr (rF ra n))))))], [(ta, .inl (D.1 100, m, .inl tf))], T]) 0 0 2 [(0, .ref (sa 0)), (1, .int (nI j)), (2, .ref ta), (3, .int (nI i))] [] := by
    intro n2
    induction n2 with
    | zero => exact fun i c1 od1 wn1 hi hK1 hc1 hs hm2 => absurd hm2 (Nat.not_lt_zero _)
    | succ n2 ih2 =>
      intro i c1 od1 wn1 hi hK1 hc1 hs hm2
      refine z_iload_n (pc := 2) gX 3 dX0_isSo_2 rfl rfl ?_
      refine z_aload_n (pc := 3) gX 2 dX0_isSo_3 rfl rfl ?_
      refine z_alen (pc := 4) gX (zI_ok gX hAX) (zm 6 rfl) 0 rfl dX0_isSo_4 ?_
      refine z_icmp_ge (pc := 5) gX 31 dX0_isSo_5 (by decide) (fun c5 => ?_) (fun c5 => ?_)
      · skip
        have k5 : m ≤ i := (zn_le (a := m) (b := i) (by omega) (by omega)).mp c5
        refine z_iconst (pc := 31) gX 1 dX0_isSo_31 (by decide) ?_
        exact z_rzm gX hQX (c1, od1, wn1) trivial (zbv (by rw [show m = i by omega, hs]; rfl)) rfl (by first | decide | omega) (by first | decide | omega) dX0_isSo_32
      · skip
        have k5 : i < m := (zn_nle (a := m) (b := i) (by omega) (by omega)).mp c5
        refine z_aload_n (pc := 8) gX 0 dX0_isSo_8 rfl rfl ?_
        refine z_cMV (pc := 9) gX hAX [] [] [0, 1, 2, 3, 4, 5, 7] [6] (fun A1 => met_goOnC l D B0 A1 sa wn1 md d n c1 od1 ra T k hK1) q839 q840 q841 q49 q842 (zm 0 rfl) (ci := 2) rfl rfl hd_X2_goOn ⟨rfl, rfl⟩ ⟨(Nat.le_of_ble_eq_true rfl), (Nat.le_of_ble_eq_true rfl)⟩ rfl rfl rfl rfl rfl (Nat.le_of_ble_eq_true rfl) ⟨(Nat.le_of_ble_eq_true rfl), (Nat.le_of_ble_eq_true rfl)⟩ dX0_isSo_9 ?_
        intro u9 hu9
        obtain ⟨od1_9, rfl⟩ : ∃ z, z = u9 := ⟨_, rfl⟩
        refine z_re [0, 1, 2, 3, 4, 5, 7, 6] [[(sa 0, .inr (2, [.int ((mTick n k c1) 16), .int ((mTick n k c1) 1), .int ((mTick n k c1) 0), .int (wn1 + nI (wnP (mPh1 n k c1) n)), .ref (sa 1), .ref (sa 2), .ref (sa 3), .ref (sa 4)]))], [(sa 1, .inr (16, [.int md, .ref d, .int (nI n)]))], [(sa 2, .inl (D.1 100, 7, .inl (fun i_ => (mTick n k c1) (9 + i_))))], [(sa 3, .inl (D.1 100, 7, .inl (fun i_ => (mTick n k c1) (2 + i_))))], [(sa 4, .inl (D.1 100, 7, .inl od1_9))], [(d, .inl (D.1 104, 10, .inr (.inr (.inr (.inr (rF ra n))))))], [(ta, .inl (D.1 100, m, .inl tf))], T] rfl rfl ?_
        refine z_eq (lv₂ := [(0, .ref (sa 0)), (1, .int (nI j)), (2, .ref ta), (3, .int (nI i))]) (st₂ := [.ref (sa 0)]) ?_ rfl rfl
        refine z_get (pc := 12) gX (zI_ok gX hAX) (zm 0 rfl) (ci := 2) (C := RX2) (T := TX2) (N := 8) rfl in_X2 6 (by decide) q171 (fun _ h => h) (v := .ref (sa 3)) rfl dX0_isSo_12 ?_
        refine z_iload_n (pc := 15) gX 1 dX0_isSo_15 rfl rfl ?_
        refine z_iald (pc := 16) gX (zI_ok gX hAX) (j := j) (n := 7) (f := (fun i_ => (mTick n k c1) (2 + i_))) (zm 3 rfl) (by omega) (by decide) dX0_isSo_16 ?_
        refine z_top ((mTick n k c1) (2 + j)) rfl ?_
        refine z_aload_n (pc := 17) gX 2 dX0_isSo_17 rfl rfl ?_
        refine z_iload_n (pc := 18) gX 3 dX0_isSo_18 rfl rfl ?_
        refine z_iald (pc := 19) gX (zI_ok gX hAX) (j := i) (n := m) (f := tf) (zm 6 rfl) (by omega) (by omega) dX0_isSo_19 ?_
        refine z_icmp_eq (pc := 20) gX 25 dX0_isSo_20 (by decide) (fun c20 => ?_) (fun c20 => ?_)
        · skip
          refine z_iinc (pc := 25) gX 3 (nI (i + 1)) [1, 2, 3, 0] [(0, .ref (sa 0)), (1, .int (nI j)), (2, .ref ta), (3, .int (nI (i + 1)))] dX0_isSo_25 rfl (nI_1 _) (by decide) rfl ?_
          refine z_goto (pc := 28) gX 2 dX0_isSo_28 (by decide) ?_
          exact ih2 (i + 1) (mTick n k c1) od1_9 (wn1 + nI (wnP (mPh1 n k c1) n)) (by omega) hK1.tick (by rw [hc1]; rfl) (show soP n k c j tf 0 (i + 1) = true by simp only [soP]; rw [hs, show itT n k c (i + 1) = mTick n k c1 by rw [hc1]; rfl, Nat.zero_add, decide_eq_true c20]; rfl) (by omega)
        · skip
          refine z_iconst (pc := 23) gX 0 dX0_isSo_23 (by decide) ?_
          exact z_rzm gX hQX (mTick n k c1, od1_9, wn1 + nI (wnP (mPh1 n k c1) n)) trivial (zbv (by rw [so_false (i := i + 1) (show soP n k c j tf 0 (i + 1) = false by simp only [soP]; rw [hs, show itT n k c (i + 1) = mTick n k c1 by rw [hc1]; rfl, Nat.zero_add, decide_eq_false c20]; rfl) m (by omega)]; rfl)) rfl (by first | decide | omega) (by first | decide | omega) dX0_isSo_24
  exact L2 ((m - 0) + 1) 0 c od wn (by omega) hK rfl rfl (Nat.lt_succ_self _)
theorem hd_X0_isSo : zHd yX0_isSo 3 := by unfold zHd; decide +kernel

set_option maxHeartbeats 4000000 in
theorem met_X13_init (l : Launch) (D : va_G) (B0 : Nat) (A : Nat → Prop) (q : Nat) (j : Nat)  : Met l yX13_init (ws_ yX13_init cX13_init 2 none) (zRm 2 0 0) (va_Pc [.ref q, .int (nI j)] (zPre B0 D A [[(q, .inr (12, [.int 0]))]])) (zQ (S := Unit) (fun _ => True) (fun _ => none) (fun _ => [[(q, .inr (12, [.int (nI j)]))]]) D A) 0 0 A := by
  refine z_entry (by decide +kernel) (Nat.le_of_ble_eq_true rfl) (fun pX eX sX mX argsX blX mtX cX QX hQX gX hAX hnm => ?_)
  refine z_eq (lv₂ := [(0, .ref q), (1, .int (nI j))]) (st₂ := []) ?_ rfl rfl
  refine z_aload_n (pc := 0) gX 0 dX13_init_0 rfl rfl ?_
  refine z_objInit (pc := 1) gX q1050 q_oi2 q_oi3 dX13_init_1 (Nat.le_of_ble_eq_true rfl) (Nat.le_of_ble_eq_true rfl) ?_
  refine z_aload_n (pc := 4) gX 0 dX13_init_4 rfl rfl ?_
  refine z_iload_n (pc := 5) gX 1 dX13_init_5 rfl rfl ?_
  refine z_putF (pc := 6) gX hAX hnm 0 rfl (ci := 12) (C := RX13) (T := TX13) (N := 1) rfl in_X13 tyX13 tyX13_ok nmX13 0 (by decide) q1051 (fun _ h => h) rfl rfl (v := .int (nI j)) rfl rfl (Nat.le_of_ble_eq_true rfl) [[(q, .inr (12, [.int (nI j)]))]] rfl dX13_init_6 ?_
  exact z_vret gX hQX () trivial rfl rfl (by first | decide | omega) (by first | decide | omega) dX13_init_9
theorem hd_X13_init : zHd yX13_init 1 := by unfold zHd; decide +kernel

set_option maxHeartbeats 4000000 in
theorem met_X14_init (l : Launch) (D : va_G) (B0 : Nat) (A : Nat → Prop) (q : Nat) (j : Nat)  : Met l yX14_init (ws_ yX14_init cX14_init 2 none) (zRm 2 0 0) (va_Pc [.ref q, .int (nI j)] (zPre B0 D A [[(q, .inr (13, [.int 0]))]])) (zQ (S := Unit) (fun _ => True) (fun _ => none) (fun _ => [[(q, .inr (13, [.int (nI j)]))]]) D A) 0 0 A := by
  refine z_entry (by decide +kernel) (Nat.le_of_ble_eq_true rfl) (fun pX eX sX mX argsX blX mtX cX QX hQX gX hAX hnm => ?_)
  refine z_eq (lv₂ := [(0, .ref q), (1, .int (nI j))]) (st₂ := []) ?_ rfl rfl
  refine z_aload_n (pc := 0) gX 0 dX14_init_0 rfl rfl ?_
  refine z_objInit (pc := 1) gX q1060 q_oi2 q_oi3 dX14_init_1 (Nat.le_of_ble_eq_true rfl) (Nat.le_of_ble_eq_true rfl) ?_
  refine z_aload_n (pc := 4) gX 0 dX14_init_4 rfl rfl ?_
  refine z_iload_n (pc := 5) gX 1 dX14_init_5 rfl rfl ?_
  refine z_putF (pc := 6) gX hAX hnm 0 rfl (ci := 13) (C := RX14) (T := TX14) (N := 1) rfl in_X14 tyX14 tyX14_ok nmX14 0 (by decide) q1061 (fun _ h => h) rfl rfl (v := .int (nI j)) rfl rfl (Nat.le_of_ble_eq_true rfl) [[(q, .inr (13, [.int (nI j)]))]] rfl dX14_init_6 ?_
  exact z_vret gX hQX () trivial rfl rfl (by first | decide | omega) (by first | decide | omega) dX14_init_9
theorem hd_X14_init : zHd yX14_init 1 := by unfold zHd; decide +kernel

set_option maxHeartbeats 4000000 in
theorem met_X15_init (l : Launch) (D : va_G) (B0 : Nat) (A : Nat → Prop) (q : Nat)  : Met l yX15_init (ws_ yX15_init cX15_init 1 none) (zRm 2 0 0) (va_Pc [.ref q] (zPre B0 D A [[(q, .inr (17, []))]])) (zQ (S := Unit) (fun _ => True) (fun _ => none) (fun _ => [[(q, .inr (17, []))]]) D A) 0 0 A := by
  refine z_entry (by decide +kernel) (Nat.le_of_ble_eq_true rfl) (fun pX eX sX mX argsX blX mtX cX QX hQX gX hAX hnm => ?_)
  refine z_eq (lv₂ := [(0, .ref q)]) (st₂ := []) ?_ rfl rfl
  refine z_aload_n (pc := 0) gX 0 dX15_init_0 rfl rfl ?_
  refine z_objInit (pc := 1) gX q1070 q_oi2 q_oi3 dX15_init_1 (Nat.le_of_ble_eq_true rfl) (Nat.le_of_ble_eq_true rfl) ?_
  exact z_vret gX hQX () trivial rfl rfl (by first | decide | omega) (by first | decide | omega) dX15_init_4
theorem hd_X15_init : zHd yX15_init 0 := by unfold zHd; decide +kernel

set_option maxHeartbeats 4000000 in
theorem met_X16_init (l : Launch) (D : va_G) (B0 : Nat) (A : Nat → Prop) (q : Nat) (o : Nat) (j : Nat)  : Met l yX16_init (ws_ yX16_init cX16_init 3 none) (zRm 2 0 0) (va_Pc [.ref q, .ref o, .int (nI j)] (zPre B0 D A [[(q, .inr (14, [.int 0, .null]))]])) (zQ (S := Unit) (fun _ => True) (fun _ => none) (fun _ => [[(q, .inr (14, [.int (nI j), .ref o]))]]) D A) 0 0 A := by
  refine z_entry (by decide +kernel) (Nat.le_of_ble_eq_true rfl) (fun pX eX sX mX argsX blX mtX cX QX hQX gX hAX hnm => ?_)
  refine z_eq (lv₂ := [(0, .ref q), (1, .ref o), (2, .int (nI j))]) (st₂ := []) ?_ rfl rfl
  refine z_aload_n (pc := 0) gX 0 dX16_init_0 rfl rfl ?_
  refine z_aload_n (pc := 1) gX 1 dX16_init_1 rfl rfl ?_
  refine z_putF (pc := 2) gX hAX hnm 0 rfl (ci := 14) (C := RX16) (T := TX16) (N := 2) rfl in_X16 tyX16 tyX16_ok nmX16 1 (by decide) q1079 (fun _ h => h) rfl rfl (v := .ref o) rfl rfl (Nat.le_of_ble_eq_true rfl) [[(q, .inr (14, [.int 0, .ref o]))]] rfl dX16_init_2 ?_
  refine z_aload_n (pc := 5) gX 0 dX16_init_5 rfl rfl ?_
  refine z_objInit (pc := 6) gX q1077 q_oi2 q_oi3 dX16_init_6 (Nat.le_of_ble_eq_true rfl) (Nat.le_of_ble_eq_true rfl) ?_
  refine z_aload_n (pc := 9) gX 0 dX16_init_9 rfl rfl ?_
  refine z_iload_n (pc := 10) gX 2 dX16_init_10 rfl rfl ?_
  refine z_putF (pc := 11) gX hAX hnm 0 rfl (ci := 14) (C := RX16) (T := TX16) (N := 2) rfl in_X16 tyX16 tyX16_ok nmX16 0 (by decide) q1078 (fun _ h => h) rfl rfl (v := .int (nI j)) rfl rfl (Nat.le_of_ble_eq_true rfl) [[(q, .inr (14, [.int (nI j), .ref o]))]] rfl dX16_init_11 ?_
  exact z_vret gX hQX () trivial rfl rfl (by first | decide | omega) (by first | decide | omega) dX16_init_14
theorem hd_X16_init : zHd yX16_init 2 := by unfold zHd; decide +kernel

set_option maxHeartbeats 4000000 in
theorem met_X17_init (l : Launch) (D : va_G) (B0 : Nat) (A : Nat → Prop) (q : Nat) (o : Nat) (j : Nat)  : Met l yX17_init (ws_ yX17_init cX17_init 3 none) (zRm 2 0 0) (va_Pc [.ref q, .ref o, .int (nI j)] (zPre B0 D A [[(q, .inr (15, [.int 0, .null]))]])) (zQ (S := Unit) (fun _ => True) (fun _ => none) (fun _ => [[(q, .inr (15, [.int (nI j), .ref o]))]]) D A) 0 0 A := by
  refine z_entry (by decide +kernel) (Nat.le_of_ble_eq_true rfl) (fun pX eX sX mX argsX blX mtX cX QX hQX gX hAX hnm => ?_)
  refine z_eq (lv₂ := [(0, .ref q), (1, .ref o), (2, .int (nI j))]) (st₂ := []) ?_ rfl rfl
  refine z_aload_n (pc := 0) gX 0 dX17_init_0 rfl rfl ?_
  refine z_aload_n (pc := 1) gX 1 dX17_init_1 rfl rfl ?_
  refine z_putF (pc := 2) gX hAX hnm 0 rfl (ci := 15) (C := RX17) (T := TX17) (N := 2) rfl in_X17 tyX17 tyX17_ok nmX17 1 (by decide) q1267 (fun _ h => h) rfl rfl (v := .ref o) rfl rfl (Nat.le_of_ble_eq_true rfl) [[(q, .inr (15, [.int 0, .ref o]))]] rfl dX17_init_2 ?_
  refine z_aload_n (pc := 5) gX 0 dX17_init_5 rfl rfl ?_
  refine z_objInit (pc := 6) gX q1265 q_oi2 q_oi3 dX17_init_6 (Nat.le_of_ble_eq_true rfl) (Nat.le_of_ble_eq_true rfl) ?_
  refine z_aload_n (pc := 9) gX 0 dX17_init_9 rfl rfl ?_
  refine z_iload_n (pc := 10) gX 2 dX17_init_10 rfl rfl ?_
  refine z_putF (pc := 11) gX hAX hnm 0 rfl (ci := 15) (C := RX17) (T := TX17) (N := 2) rfl in_X17 tyX17 tyX17_ok nmX17 0 (by decide) q1266 (fun _ h => h) rfl rfl (v := .int (nI j)) rfl rfl (Nat.le_of_ble_eq_true rfl) [[(q, .inr (15, [.int (nI j), .ref o]))]] rfl dX17_init_11 ?_
  exact z_vret gX hQX () trivial rfl rfl (by first | decide | omega) (by first | decide | omega) dX17_init_14
theorem hd_X17_init : zHd yX17_init 2 := by unfold zHd; decide +kernel

set_option maxHeartbeats 4000000 in
theorem met_X0_butBy_0 (l : Launch) (D : va_G) (B0 : Nat) (A : Nat → Prop) (o : Nat) (j : Nat)  : Met l yX0_butBy (ws_ yX0_butBy cX0_butBy 3 (some (.object "StepRiders$But"))) (zRm 3 1 1) (va_Pc [.ref o, .int (nI j), .int 0] (zPre B0 D A [])) (zQ (S := Nat) (fun u => (fun (q : Nat) => True) u) (fun u => (fun (q : Nat) => some (.ref q)) u) (fun u => (fun (q : Nat) => [[(q, .inr (12, [.int (nI j)]))]]) u) D A) 1 1 A := by
  refine z_entry (by decide +kernel) (Nat.le_of_ble_eq_true rfl) (fun pX eX sX mX argsX blX mtX cX QX hQX gX hAX hnm => ?_)
  refine z_eq (lv₂ := [(0, .ref o), (1, .int (nI j)), (2, .int 0)]) (st₂ := []) ?_ rfl rfl
  refine z_iload_n (pc := 0) gX 2 dX0_butBy_0 rfl rfl ?_
  refine z_tableIn (pc := 1) gX 28 dX0_butBy_1 (by decide) (by decide) (by rfl) (by decide) ?_
  refine z_new (pc := 28) gX hAX (ci := 12) (C := RX13) (T := TX13) (N := 1) rfl in_X13 tyX13 tyX13_ok q1045 q1046 q82 [.int 0] (by decide +kernel) (by first | decide | (simp only [zRm]; omega)) (by first | decide | (simp only [zRm]; omega)) dX0_butBy_28 (fun q28 => ?_)
  refine z_norm [[(q28, .inr (12, [.int 0]))]] 1 1 ?_ rfl rfl rfl
  refine z_dup (pc := 31) gX dX0_butBy_31 rfl ?_
  refine z_iload_n (pc := 32) gX 1 dX0_butBy_32 rfl rfl ?_
  refine z_cMI (pc := 33) gX hAX [.int (nI j)] [.ref q28] [0] [] (fun A1 => met_X13_init l D B0 A1 q28 j ) q1047 q1048 q82 q1049 rfl hd_X13_init ⟨rfl, rfl⟩ ⟨(Nat.le_of_ble_eq_true rfl), (Nat.le_of_ble_eq_true rfl)⟩ rfl rfl rfl rfl rfl (Nat.le_of_ble_eq_true rfl) ⟨(Nat.le_of_ble_eq_true rfl), (Nat.le_of_ble_eq_true rfl)⟩ dX0_butBy_33 ?_
  intro _ hu33
  refine z_re [0] [[(q28, .inr (12, [.int (nI j)]))]] rfl rfl ?_
  refine z_eq (lv₂ := [(0, .ref o), (1, .int (nI j)), (2, .int 0)]) (st₂ := [.ref q28]) ?_ rfl rfl
  exact z_aret gX hQX (by first | exact Or.inl ⟨_, rfl⟩ | exact Or.inr ⟨_, rfl⟩) (Or.inr ⟨_, rfl⟩) q28 trivial rfl rfl (by first | decide | omega) (by first | decide | omega) dX0_butBy_36
theorem hd_X0_butBy : zHd yX0_butBy 2 := by unfold zHd; decide +kernel

set_option maxHeartbeats 4000000 in
theorem met_X0_butBy_1 (l : Launch) (D : va_G) (B0 : Nat) (A : Nat → Prop) (o : Nat) (j : Nat)  : Met l yX0_butBy (ws_ yX0_butBy cX0_butBy 3 (some (.object "StepRiders$But"))) (zRm 3 1 1) (va_Pc [.ref o, .int (nI j), .int 1] (zPre B0 D A [])) (zQ (S := Nat) (fun u => (fun (q : Nat) => True) u) (fun u => (fun (q : Nat) => some (.ref q)) u) (fun u => (fun (q : Nat) => [[(q, .inr (13, [.int (nI j)]))]]) u) D A) 1 1 A := by
  refine z_entry (by decide +kernel) (Nat.le_of_ble_eq_true rfl) (fun pX eX sX mX argsX blX mtX cX QX hQX gX hAX hnm => ?_)
  refine z_eq (lv₂ := [(0, .ref o), (1, .int (nI j)), (2, .int 1)]) (st₂ := []) ?_ rfl rfl
  refine z_iload_n (pc := 0) gX 2 dX0_butBy_0 rfl rfl ?_
  refine z_tableIn (pc := 1) gX 37 dX0_butBy_1 (by decide) (by decide) (by rfl) (by decide) ?_
  refine z_new (pc := 37) gX hAX (ci := 13) (C := RX14) (T := TX14) (N := 1) rfl in_X14 tyX14 tyX14_ok q1055 q1056 q83 [.int 0] (by decide +kernel) (by first | decide | (simp only [zRm]; omega)) (by first | decide | (simp only [zRm]; omega)) dX0_butBy_37 (fun q37 => ?_)
  refine z_norm [[(q37, .inr (13, [.int 0]))]] 1 1 ?_ rfl rfl rfl
  refine z_dup (pc := 40) gX dX0_butBy_40 rfl ?_
  refine z_iload_n (pc := 41) gX 1 dX0_butBy_41 rfl rfl ?_
  refine z_cMI (pc := 42) gX hAX [.int (nI j)] [.ref q37] [0] [] (fun A1 => met_X14_init l D B0 A1 q37 j ) q1057 q1058 q83 q1059 rfl hd_X14_init ⟨rfl, rfl⟩ ⟨(Nat.le_of_ble_eq_true rfl), (Nat.le_of_ble_eq_true rfl)⟩ rfl rfl rfl rfl rfl (Nat.le_of_ble_eq_true rfl) ⟨(Nat.le_of_ble_eq_true rfl), (Nat.le_of_ble_eq_true rfl)⟩ dX0_butBy_42 ?_
  intro _ hu42
  refine z_re [0] [[(q37, .inr (13, [.int (nI j)]))]] rfl rfl ?_
  refine z_eq (lv₂ := [(0, .ref o), (1, .int (nI j)), (2, .int 1)]) (st₂ := [.ref q37]) ?_ rfl rfl
  exact z_aret gX hQX (by first | exact Or.inl ⟨_, rfl⟩ | exact Or.inr ⟨_, rfl⟩) (Or.inr ⟨_, rfl⟩) q37 trivial rfl rfl (by first | decide | omega) (by first | decide | omega) dX0_butBy_45

set_option maxHeartbeats 4000000 in
theorem met_X0_butBy_2 (l : Launch) (D : va_G) (B0 : Nat) (A : Nat → Prop) (o : Nat) (j : Nat)  : Met l yX0_butBy (ws_ yX0_butBy cX0_butBy 3 (some (.object "StepRiders$But"))) (zRm 3 1 0) (va_Pc [.ref o, .int (nI j), .int 2] (zPre B0 D A [])) (zQ (S := Nat) (fun u => (fun (q : Nat) => True) u) (fun u => (fun (q : Nat) => some (.ref q)) u) (fun u => (fun (q : Nat) => [[(q, .inr (17, []))]]) u) D A) 1 0 A := by
  refine z_entry (by decide +kernel) (Nat.le_of_ble_eq_true rfl) (fun pX eX sX mX argsX blX mtX cX QX hQX gX hAX hnm => ?_)
  refine z_eq (lv₂ := [(0, .ref o), (1, .int (nI j)), (2, .int 2)]) (st₂ := []) ?_ rfl rfl
  refine z_iload_n (pc := 0) gX 2 dX0_butBy_0 rfl rfl ?_
  refine z_tableIn (pc := 1) gX 46 dX0_butBy_1 (by decide) (by decide) (by rfl) (by decide) ?_
  refine z_new (pc := 46) gX hAX (ci := 17) (C := RX15) (T := TX15) (N := 0) rfl in_X15 tyX15 tyX15_ok q1065 q1066 q84 [] (by decide +kernel) (by first | decide | (simp only [zRm]; omega)) (by first | decide | (simp only [zRm]; omega)) dX0_butBy_46 (fun q46 => ?_)
  refine z_norm [[(q46, .inr (17, []))]] 1 0 ?_ rfl rfl rfl
  refine z_dup (pc := 49) gX dX0_butBy_49 rfl ?_
  refine z_cMIN (pc := 50) gX hAX [] [.ref q46] [0] [] (fun A1 => met_X15_init l D B0 A1 q46 ) (zm 14 rfl) q1068 q84 rfl hd_X15_init q1069 ⟨rfl, rfl⟩ ⟨(Nat.le_of_ble_eq_true rfl), (Nat.le_of_ble_eq_true rfl)⟩ rfl rfl rfl rfl rfl (Nat.le_of_ble_eq_true rfl) ⟨(Nat.le_of_ble_eq_true rfl), (Nat.le_of_ble_eq_true rfl)⟩ dX0_butBy_50 ?_
  intro _ hu50
  refine z_re [0] [[(q46, .inr (17, []))]] rfl rfl ?_
  refine z_eq (lv₂ := [(0, .ref o), (1, .int (nI j)), (2, .int 2)]) (st₂ := [.ref q46]) ?_ rfl rfl
  exact z_aret gX hQX (by first | exact Or.inl ⟨_, rfl⟩ | exact Or.inr ⟨_, rfl⟩) (Or.inr ⟨_, rfl⟩) q46 trivial rfl rfl (by first | decide | omega) (by first | decide | omega) dX0_butBy_53

set_option maxHeartbeats 4000000 in
theorem met_X0_butBy_3 (l : Launch) (D : va_G) (B0 : Nat) (A : Nat → Prop) (o : Nat) (j : Nat)  : Met l yX0_butBy (ws_ yX0_butBy cX0_butBy 3 (some (.object "StepRiders$But"))) (zRm 3 1 2) (va_Pc [.ref o, .int (nI j), .int 3] (zPre B0 D A [])) (zQ (S := Nat) (fun u => (fun (q : Nat) => True) u) (fun u => (fun (q : Nat) => some (.ref q)) u) (fun u => (fun (q : Nat) => [[(q, .inr (14, [.int (nI j), .ref o]))]]) u) D A) 1 2 A := by
  refine z_entry (by decide +kernel) (Nat.le_of_ble_eq_true rfl) (fun pX eX sX mX argsX blX mtX cX QX hQX gX hAX hnm => ?_)
  refine z_eq (lv₂ := [(0, .ref o), (1, .int (nI j)), (2, .int 3)]) (st₂ := []) ?_ rfl rfl
  refine z_iload_n (pc := 0) gX 2 dX0_butBy_0 rfl rfl ?_
  refine z_tableOut (pc := 1) gX 54 dX0_butBy_1 (by decide) (by decide) ?_
  refine z_new (pc := 54) gX hAX (ci := 14) (C := RX16) (T := TX16) (N := 2) rfl in_X16 tyX16 tyX16_ok q1072 q1073 q85 [.int 0, .null] (by decide +kernel) (by first | decide | (simp only [zRm]; omega)) (by first | decide | (simp only [zRm]; omega)) dX0_butBy_54 (fun q54 => ?_)
  refine z_norm [[(q54, .inr (14, [.int 0, .null]))]] 1 2 ?_ rfl rfl rfl
  refine z_dup (pc := 57) gX dX0_butBy_57 rfl ?_
  refine z_aload_n (pc := 58) gX 0 dX0_butBy_58 rfl rfl ?_
  refine z_iload_n (pc := 59) gX 1 dX0_butBy_59 rfl rfl ?_
  refine z_cMI (pc := 60) gX hAX [.ref o, .int (nI j)] [.ref q54] [0] [] (fun A1 => met_X16_init l D B0 A1 q54 o j ) q1074 q1075 q85 q1076 rfl hd_X16_init ⟨rfl, rfl⟩ ⟨(Nat.le_of_ble_eq_true rfl), (Nat.le_of_ble_eq_true rfl)⟩ rfl rfl rfl rfl rfl (Nat.le_of_ble_eq_true rfl) ⟨(Nat.le_of_ble_eq_true rfl), (Nat.le_of_ble_eq_true rfl)⟩ dX0_butBy_60 ?_
  intro _ hu60
  refine z_re [0] [[(q54, .inr (14, [.int (nI j), .ref o]))]] rfl rfl ?_
  refine z_eq (lv₂ := [(0, .ref o), (1, .int (nI j)), (2, .int 3)]) (st₂ := [.ref q54]) ?_ rfl rfl
  exact z_aret gX hQX (by first | exact Or.inl ⟨_, rfl⟩ | exact Or.inr ⟨_, rfl⟩) (Or.inr ⟨_, rfl⟩) q54 trivial rfl rfl (by first | decide | omega) (by first | decide | omega) dX0_butBy_63

set_option maxHeartbeats 4000000 in
theorem met_X13_high (l : Launch) (D : va_G) (B0 : Nat) (q : Nat)  : Met l yX13_high (ws_ yX13_high cX13_high 1 (some .int)) (zRm 1 0 0) (va_Pc [.ref q] (zPreO B0 D [])) (zQo (S := Unit) (fun _ => True) (fun _ => some (.int 5))) 0 0 (fun _ => False) := by
  refine z_entryo (by decide +kernel) (Nat.le_of_ble_eq_true rfl) (fun pX eX sX mX argsX blX mtX cX QX hQX gX => ?_)
  refine z_eq (lv₂ := [(0, .ref q)]) (st₂ := []) ?_ rfl rfl
  refine z_iconst (pc := 0) gX 5 dX13_high_0 (by decide) ?_
  exact z_rio gX hQX rfl dX13_high_1
theorem hd_X13_high : zHd yX13_high 0 := by unfold zHd; decide +kernel

set_option maxHeartbeats 4000000 in
theorem met_X14_high (l : Launch) (D : va_G) (B0 : Nat) (q : Nat)  : Met l yX14_high (ws_ yX14_high cX14_high 1 (some .int)) (zRm 1 0 0) (va_Pc [.ref q] (zPreO B0 D [])) (zQo (S := Unit) (fun _ => True) (fun _ => some (.int 1))) 0 0 (fun _ => False) := by
  refine z_entryo (by decide +kernel) (Nat.le_of_ble_eq_true rfl) (fun pX eX sX mX argsX blX mtX cX QX hQX gX => ?_)
  refine z_eq (lv₂ := [(0, .ref q)]) (st₂ := []) ?_ rfl rfl
  refine z_iconst (pc := 0) gX 1 dX14_high_0 (by decide) ?_
  exact z_rio gX hQX rfl dX14_high_1
theorem hd_X14_high : zHd yX14_high 0 := by unfold zHd; decide +kernel

set_option maxHeartbeats 4000000 in
theorem met_X15_high (l : Launch) (D : va_G) (B0 : Nat) (q : Nat)  : Met l yX15_high (ws_ yX15_high cX15_high 1 (some .int)) (zRm 1 0 0) (va_Pc [.ref q] (zPreO B0 D [])) (zQo (S := Unit) (fun _ => True) (fun _ => some (.int 2))) 0 0 (fun _ => False) := by
  refine z_entryo (by decide +kernel) (Nat.le_of_ble_eq_true rfl) (fun pX eX sX mX argsX blX mtX cX QX hQX gX => ?_)
  refine z_eq (lv₂ := [(0, .ref q)]) (st₂ := []) ?_ rfl rfl
  refine z_iconst (pc := 0) gX 2 dX15_high_0 (by decide) ?_
  exact z_rio gX hQX rfl dX15_high_1
theorem hd_X15_high : zHd yX15_high 0 := by unfold zHd; decide +kernel

set_option maxHeartbeats 4000000 in
theorem met_X16_high (l : Launch) (D : va_G) (B0 : Nat) (o : Nat) (ad : Nat → Nat) (sa : Nat → Nat) (sb : Nat → Nat) (tr : Nat) (x : Nat → Int32) (q : Nat) (j : Nat) (c : Nat → Int32) (wn : Int32)  : Met l yX16_high (ws_ yX16_high cX16_high 1 (some .int)) (zRm 1 0 0) (va_Pc [.ref q] (zPreO B0 D [[(q, .inr (14, [.int (nI j), .ref o]))], cOb o ad (sa 0) (sb 0) tr x, [(sa 0, .inr (2, [.int (c 16), .int (c 1), .int (c 0), .int wn, .ref (sa 1), .ref (sa 2), .ref (sa 3), .ref (sa 4)]))]])) (zQo (S := Unit) (fun _ => True) (fun _ => some (.int (c 16 - 1)))) 0 0 (fun _ => False) := by
  refine z_entryo (by decide +kernel) (Nat.le_of_ble_eq_true rfl) (fun pX eX sX mX argsX blX mtX cX QX hQX gX => ?_)
  refine z_eq (lv₂ := [(0, .ref q)]) (st₂ := []) ?_ rfl rfl
  refine z_aload_n (pc := 0) gX 0 dX16_high_0 rfl rfl ?_
  refine z_get (pc := 1) gX (zIo_ok gX) (zm 0 rfl) (ci := 14) (C := RX16) (T := TX16) (N := 2) rfl in_X16 1 (by decide) q1079 (fun _ h => h) (v := .ref o) rfl dX16_high_1 ?_
  refine z_getN (pc := 4) gX (zIo_ok gX) (zm 1 rfl) (ci := 0) (C := RX0) (T := TX0) (N := 14) rfl in_X0 4 (by decide) (zm 7 rfl) (fun _ h => h) (v := .ref (sa 0)) rfl dX16_high_4 ?_
  refine z_get (pc := 7) gX (zIo_ok gX) (zm 2 rfl) (ci := 2) (C := RX2) (T := TX2) (N := 8) rfl in_X2 0 (by decide) q145 (fun _ h => h) (v := .int (c 16)) rfl dX16_high_7 ?_
  refine z_iconst (pc := 10) gX 1 dX16_high_10 (by decide) ?_
  refine z_isub (pc := 11) gX dX16_high_11 ?_
  exact z_rio gX hQX rfl dX16_high_12
theorem hd_X16_high : zHd yX16_high 0 := by unfold zHd; decide +kernel

set_option maxHeartbeats 4000000 in
theorem met_X18_low (l : Launch) (D : va_G) (B0 : Nat) (q : Nat)  : Met l yX18_low (ws_ yX18_low cX18_low 1 (some .int)) (zRm 1 0 0) (va_Pc [.ref q] (zPreO B0 D [])) (zQo (S := Unit) (fun _ => True) (fun _ => some (.int 0))) 0 0 (fun _ => False) := by
  refine z_entryo (by decide +kernel) (Nat.le_of_ble_eq_true rfl) (fun pX eX sX mX argsX blX mtX cX QX hQX gX => ?_)
  refine z_eq (lv₂ := [(0, .ref q)]) (st₂ := []) ?_ rfl rfl
  refine z_iconst (pc := 0) gX 0 dX18_low_0 (by decide) ?_
  exact z_rio gX hQX rfl dX18_low_1
theorem hd_X18_low : zHd yX18_low 0 := by unfold zHd; decide +kernel

set_option maxHeartbeats 4000000 in
theorem met_X14_lay (l : Launch) (D : va_G) (B0 : Nat) (A : Nat → Prop) (q : Nat) (sa : Nat → Nat) (wn : Int32) (md : Int32) (d : Nat) (n : Nat) (c : Nat → Int32) (od : Nat → Int32) (ra : Nat → Nat) (T : va_W) (k : Nat) (j : Nat) (v : Nat) (hK : kOK T n k ra c) (hj : j < n) : Met l yX14_lay (ws_ yX14_lay cX14_lay 3 (some .boolean)) (zRm 2 0 0) (va_Pc [.ref q, .ref (sa 0), .int (nI v)] (zPre B0 D A [[(q, .inr (13, [.int (nI j)]))], [(sa 0, .inr (2, [.int (c 16), .int (c 1), .int (c 0), .int wn, .ref (sa 1), .ref (sa 2), .ref (sa 3), .ref (sa 4)]))], [(sa 1, .inr (16, [.int md, .ref d, .int (nI n)]))], [(sa 2, .inl (D.1 100, 7, .inl (fun i_ => c (9 + i_))))], [(sa 3, .inl (D.1 100, 7, .inl (fun i_ => c (2 + i_))))], [(sa 4, .inl (D.1 100, 7, .inl od))], [(d, .inl (D.1 104, 10, .inr (.inr (.inr (.inr (rF ra n))))))], T])) (zQ (S := Unit) (fun _ => True) (fun _ => some (.int (bI true))) (fun _ => [[(q, .inr (13, [.int (nI j)]))], [(sa 0, .inr (2, [.int ((upd c (9 + j) (nI v)) 16), .int ((upd c (9 + j) (nI v)) 1), .int ((upd c (9 + j) (nI v)) 0), .int wn, .ref (sa 1), .ref (sa 2), .ref (sa 3), .ref (sa 4)]))], [(sa 1, .inr (16, [.int md, .ref d, .int (nI n)]))], [(sa 2, .inl (D.1 100, 7, .inl (fun i_ => (upd c (9 + j) (nI v)) (9 + i_))))], [(sa 3, .inl (D.1 100, 7, .inl (fun i_ => (upd c (9 + j) (nI v)) (2 + i_))))], [(sa 4, .inl (D.1 100, 7, .inl od))], [(d, .inl (D.1 104, 10, .inr (.inr (.inr (.inr (rF ra n))))))], T]) D A) 0 0 A := by
  refine z_entry (by decide +kernel) (Nat.le_of_ble_eq_true rfl) (fun pX eX sX mX argsX blX mtX cX QX hQX gX hAX hnm => ?_)
  refine z_eq (lv₂ := [(0, .ref q), (1, .ref (sa 0)), (2, .int (nI v))]) (st₂ := []) ?_ rfl rfl
  have hn7 := hK.1
  refine z_aload_n (pc := 0) gX 1 dX14_lay_0 rfl rfl ?_
  refine z_get (pc := 1) gX (zI_ok gX hAX) (zm 1 rfl) (ci := 2) (C := RX2) (T := TX2) (N := 8) rfl in_X2 5 (by decide) q162 (fun _ h => h) (v := .ref (sa 2)) rfl dX14_lay_1 ?_
  refine z_aload_n (pc := 4) gX 0 dX14_lay_4 rfl rfl ?_
  refine z_get (pc := 5) gX (zI_ok gX hAX) (zm 0 rfl) (ci := 13) (C := RX14) (T := TX14) (N := 1) rfl in_X14 0 (by decide) q1061 (fun _ h => h) (v := .int (nI j)) rfl dX14_lay_5 ?_
  refine z_iload_n (pc := 8) gX 2 dX14_lay_8 rfl rfl ?_
  refine z_iast (pc := 9) gX hAX 3 (j := j) (n := 7) (f := (fun i_ => c (9 + i_))) rfl (by omega) (by decide) [[(q, .inr (13, [.int (nI j)]))], [(sa 0, .inr (2, [.int (c 16), .int (c 1), .int (c 0), .int wn, .ref (sa 1), .ref (sa 2), .ref (sa 3), .ref (sa 4)]))], [(sa 1, .inr (16, [.int md, .ref d, .int (nI n)]))], [(sa 2, .inl (D.1 100, 7, .inl (upd (fun i_ => c (9 + i_)) j (nI v))))], [(sa 3, .inl (D.1 100, 7, .inl (fun i_ => c (2 + i_))))], [(sa 4, .inl (D.1 100, 7, .inl od))], [(d, .inl (D.1 104, 10, .inr (.inr (.inr (.inr (rF ra n))))))], T] rfl dX14_lay_9 ?_
  refine z_ext 3 (fun i_ => (upd c (9 + j) (nI v)) (9 + i_)) rfl (fun q hq => upL j q) [[(q, .inr (13, [.int (nI j)]))], [(sa 0, .inr (2, [.int (c 16), .int (c 1), .int (c 0), .int wn, .ref (sa 1), .ref (sa 2), .ref (sa 3), .ref (sa 4)]))], [(sa 1, .inr (16, [.int md, .ref d, .int (nI n)]))], [(sa 2, .inl (D.1 100, 7, .inl (fun i_ => (upd c (9 + j) (nI v)) (9 + i_))))], [(sa 3, .inl (D.1 100, 7, .inl (fun i_ => c (2 + i_))))], [(sa 4, .inl (D.1 100, 7, .inl od))], [(d, .inl (D.1 104, 10, .inr (.inr (.inr (.inr (rF ra n))))))], T] rfl ?_
  refine z_ext 4 (fun i_ => (upd c (9 + j) (nI v)) (2 + i_)) rfl (fun q hq => (pk_un (by omega)).symm) [[(q, .inr (13, [.int (nI j)]))], [(sa 0, .inr (2, [.int (c 16), .int (c 1), .int (c 0), .int wn, .ref (sa 1), .ref (sa 2), .ref (sa 3), .ref (sa 4)]))], [(sa 1, .inr (16, [.int md, .ref d, .int (nI n)]))], [(sa 2, .inl (D.1 100, 7, .inl (fun i_ => (upd c (9 + j) (nI v)) (9 + i_))))], [(sa 3, .inl (D.1 100, 7, .inl (fun i_ => (upd c (9 + j) (nI v)) (2 + i_))))], [(sa 4, .inl (D.1 100, 7, .inl od))], [(d, .inl (D.1 104, 10, .inr (.inr (.inr (.inr (rF ra n))))))], T] rfl ?_
  refine z_weq [[(q, .inr (13, [.int (nI j)]))], [(sa 0, .inr (2, [.int ((upd c (9 + j) (nI v)) 16), .int ((upd c (9 + j) (nI v)) 1), .int ((upd c (9 + j) (nI v)) 0), .int wn, .ref (sa 1), .ref (sa 2), .ref (sa 3), .ref (sa 4)]))], [(sa 1, .inr (16, [.int md, .ref d, .int (nI n)]))], [(sa 2, .inl (D.1 100, 7, .inl (fun i_ => (upd c (9 + j) (nI v)) (9 + i_))))], [(sa 3, .inl (D.1 100, 7, .inl (fun i_ => (upd c (9 + j) (nI v)) (2 + i_))))], [(sa 4, .inl (D.1 100, 7, .inl od))], [(d, .inl (D.1 104, 10, .inr (.inr (.inr (.inr (rF ra n))))))], T] (by rw [show (upd c (9 + j) (nI v)) 16 = c 16 from pk_un (by omega), show (upd c (9 + j) (nI v)) 1 = c 1 from pk_un (by omega), show (upd c (9 + j) (nI v)) 0 = c 0 from pk_un (by omega)]) ?_
  refine z_iconst (pc := 10) gX 1 dX14_lay_10 (by decide) ?_
  exact z_rzm gX hQX () trivial (zbv rfl) rfl (by first | decide | omega) (by first | decide | omega) dX14_lay_11
theorem hd_X14_lay : zHd yX14_lay 2 := by unfold zHd; decide +kernel

set_option maxHeartbeats 4000000 in
theorem met_X15_lay (l : Launch) (D : va_G) (B0 : Nat) (A : Nat → Prop) (q : Nat) (sa : Nat → Nat) (wn : Int32) (md : Int32) (d : Nat) (n : Nat) (c : Nat → Int32) (od : Nat → Int32) (ra : Nat → Nat) (T : va_W) (k : Nat) (j : Nat) (v : Nat) (hK : kOK T n k ra c) (hj : j < n) : Met l yX15_lay (ws_ yX15_lay cX15_lay 3 (some .boolean)) (zRm 2 0 0) (va_Pc [.ref q, .ref (sa 0), .int (nI v)] (zPre B0 D A [[(q, .inr (17, []))], [(sa 0, .inr (2, [.int (c 16), .int (c 1), .int (c 0), .int wn, .ref (sa 1), .ref (sa 2), .ref (sa 3), .ref (sa 4)]))], [(sa 1, .inr (16, [.int md, .ref d, .int (nI n)]))], [(sa 2, .inl (D.1 100, 7, .inl (fun i_ => c (9 + i_))))], [(sa 3, .inl (D.1 100, 7, .inl (fun i_ => c (2 + i_))))], [(sa 4, .inl (D.1 100, 7, .inl od))], [(d, .inl (D.1 104, 10, .inr (.inr (.inr (.inr (rF ra n))))))], T])) (zQ (S := Unit) (fun _ => True) (fun _ => some (.int (bI true))) (fun _ => [[(q, .inr (17, []))], [(sa 0, .inr (2, [.int ((upd c 1 (nI v)) 16), .int ((upd c 1 (nI v)) 1), .int ((upd c 1 (nI v)) 0), .int wn, .ref (sa 1), .ref (sa 2), .ref (sa 3), .ref (sa 4)]))], [(sa 1, .inr (16, [.int md, .ref d, .int (nI n)]))], [(sa 2, .inl (D.1 100, 7, .inl (fun i_ => (upd c 1 (nI v)) (9 + i_))))], [(sa 3, .inl (D.1 100, 7, .inl (fun i_ => (upd c 1 (nI v)) (2 + i_))))], [(sa 4, .inl (D.1 100, 7, .inl od))], [(d, .inl (D.1 104, 10, .inr (.inr (.inr (.inr (rF ra n))))))], T]) D A) 0 0 A := by
  refine z_entry (by decide +kernel) (Nat.le_of_ble_eq_true rfl) (fun pX eX sX mX argsX blX mtX cX QX hQX gX hAX hnm => ?_)
  refine z_eq (lv₂ := [(0, .ref q), (1, .ref (sa 0)), (2, .int (nI v))]) (st₂ := []) ?_ rfl rfl
  have hn7 := hK.1
  refine z_aload_n (pc := 0) gX 1 dX15_lay_0 rfl rfl ?_
  refine z_iload_n (pc := 1) gX 2 dX15_lay_1 rfl rfl ?_
  refine z_put (pc := 2) gX hAX 1 rfl (ci := 2) (C := RX2) (T := TX2) (N := 8) rfl in_X2 tyX2 tyX2_ok nmX2 1 (by decide) q148 (fun _ h => h) rfl (v := .int (nI v)) rfl rfl (Nat.le_of_ble_eq_true rfl) [[(q, .inr (17, []))], [(sa 0, .inr (2, [.int (c 16), .int (nI v), .int (c 0), .int wn, .ref (sa 1), .ref (sa 2), .ref (sa 3), .ref (sa 4)]))], [(sa 1, .inr (16, [.int md, .ref d, .int (nI n)]))], [(sa 2, .inl (D.1 100, 7, .inl (fun i_ => c (9 + i_))))], [(sa 3, .inl (D.1 100, 7, .inl (fun i_ => c (2 + i_))))], [(sa 4, .inl (D.1 100, 7, .inl od))], [(d, .inl (D.1 104, 10, .inr (.inr (.inr (.inr (rF ra n))))))], T] rfl dX15_lay_2 ?_
  refine z_ext 3 (fun i_ => (upd c 1 (nI v)) (9 + i_)) rfl (fun q hq => (pk_un (by omega)).symm) [[(q, .inr (17, []))], [(sa 0, .inr (2, [.int (c 16), .int (nI v), .int (c 0), .int wn, .ref (sa 1), .ref (sa 2), .ref (sa 3), .ref (sa 4)]))], [(sa 1, .inr (16, [.int md, .ref d, .int (nI n)]))], [(sa 2, .inl (D.1 100, 7, .inl (fun i_ => (upd c 1 (nI v)) (9 + i_))))], [(sa 3, .inl (D.1 100, 7, .inl (fun i_ => c (2 + i_))))], [(sa 4, .inl (D.1 100, 7, .inl od))], [(d, .inl (D.1 104, 10, .inr (.inr (.inr (.inr (rF ra n))))))], T] rfl ?_
  refine z_ext 4 (fun i_ => (upd c 1 (nI v)) (2 + i_)) rfl (fun q hq => (pk_un (by omega)).symm) [[(q, .inr (17, []))], [(sa 0, .inr (2, [.int (c 16), .int (nI v), .int (c 0), .int wn, .ref (sa 1), .ref (sa 2), .ref (sa 3), .ref (sa 4)]))], [(sa 1, .inr (16, [.int md, .ref d, .int (nI n)]))], [(sa 2, .inl (D.1 100, 7, .inl (fun i_ => (upd c 1 (nI v)) (9 + i_))))], [(sa 3, .inl (D.1 100, 7, .inl (fun i_ => (upd c 1 (nI v)) (2 + i_))))], [(sa 4, .inl (D.1 100, 7, .inl od))], [(d, .inl (D.1 104, 10, .inr (.inr (.inr (.inr (rF ra n))))))], T] rfl ?_
  refine z_weq [[(q, .inr (17, []))], [(sa 0, .inr (2, [.int ((upd c 1 (nI v)) 16), .int ((upd c 1 (nI v)) 1), .int ((upd c 1 (nI v)) 0), .int wn, .ref (sa 1), .ref (sa 2), .ref (sa 3), .ref (sa 4)]))], [(sa 1, .inr (16, [.int md, .ref d, .int (nI n)]))], [(sa 2, .inl (D.1 100, 7, .inl (fun i_ => (upd c 1 (nI v)) (9 + i_))))], [(sa 3, .inl (D.1 100, 7, .inl (fun i_ => (upd c 1 (nI v)) (2 + i_))))], [(sa 4, .inl (D.1 100, 7, .inl od))], [(d, .inl (D.1 104, 10, .inr (.inr (.inr (.inr (rF ra n))))))], T] (by rw [show (upd c 1 (nI v)) 16 = c 16 from pk_un (by omega), show (upd c 1 (nI v)) 1 = (nI v) from pk_us, show (upd c 1 (nI v)) 0 = c 0 from pk_un (by omega)]) ?_
  refine z_iconst (pc := 5) gX 1 dX15_lay_5 (by decide) ?_
  exact z_rzm gX hQX () trivial (zbv rfl) rfl (by first | decide | omega) (by first | decide | omega) dX15_lay_6
theorem hd_X15_lay : zHd yX15_lay 2 := by unfold zHd; decide +kernel

set_option maxHeartbeats 4000000 in
theorem met_X16_lay (l : Launch) (D : va_G) (B0 : Nat) (A : Nat → Prop) (q : Nat) (sa : Nat → Nat) (wn : Int32) (md : Int32) (d : Nat) (n : Nat) (c : Nat → Int32) (od : Nat → Int32) (ra : Nat → Nat) (T : va_W) (k : Nat) (j : Nat) (v : Nat) (o : Nat) (hK : kOK T n k ra c) (hj : j < n) : Met l yX16_lay (ws_ yX16_lay cX16_lay 4 (some .boolean)) (zRm 8 0 0) (va_Pc [.ref q, .ref (sa 0), .int (nI v)] (zPre B0 D A [[(q, .inr (14, [.int (nI j), .ref o]))], [(sa 0, .inr (2, [.int (c 16), .int (c 1), .int (c 0), .int wn, .ref (sa 1), .ref (sa 2), .ref (sa 3), .ref (sa 4)]))], [(sa 1, .inr (16, [.int md, .ref d, .int (nI n)]))], [(sa 2, .inl (D.1 100, 7, .inl (fun i_ => c (9 + i_))))], [(sa 3, .inl (D.1 100, 7, .inl (fun i_ => c (2 + i_))))], [(sa 4, .inl (D.1 100, 7, .inl od))], [(d, .inl (D.1 104, 10, .inr (.inr (.inr (.inr (rF ra n))))))], T])) (zQ (S := Unit) (fun _ => True) (fun _ => some (.int (bI (mOn (c (2 + j)) && mFreeTo c j (nI v) (c (9 + j)) n)))) (fun _ => [[(q, .inr (14, [.int (nI j), .ref o]))], [(sa 0, .inr (2, [.int ((upd c (2 + j) (nI v)) 16), .int ((upd c (2 + j) (nI v)) 1), .int ((upd c (2 + j) (nI v)) 0), .int wn, .ref (sa 1), .ref (sa 2), .ref (sa 3), .ref (sa 4)]))], [(sa 1, .inr (16, [.int md, .ref d, .int (nI n)]))], [(sa 2, .inl (D.1 100, 7, .inl (fun i_ => (upd c (2 + j) (nI v)) (9 + i_))))], [(sa 3, .inl (D.1 100, 7, .inl (fun i_ => (upd c (2 + j) (nI v)) (2 + i_))))], [(sa 4, .inl (D.1 100, 7, .inl od))], [(d, .inl (D.1 104, 10, .inr (.inr (.inr (.inr (rF ra n))))))], T]) D A) 0 0 A := by
  refine z_entry (by decide +kernel) (Nat.le_of_ble_eq_true rfl) (fun pX eX sX mX argsX blX mtX cX QX hQX gX hAX hnm => ?_)
  refine z_eq (lv₂ := [(0, .ref q), (1, .ref (sa 0)), (2, .int (nI v))]) (st₂ := []) ?_ rfl rfl
  have hn7 := hK.1
  refine z_aload_n (pc := 0) gX 1 dX16_lay_0 rfl rfl ?_
  refine z_aload_n (pc := 1) gX 0 dX16_lay_1 rfl rfl ?_
  refine z_get (pc := 2) gX (zI_ok gX hAX) (zm 0 rfl) (ci := 14) (C := RX16) (T := TX16) (N := 2) rfl in_X16 0 (by decide) q1078 (fun _ h => h) (v := .int (nI j)) rfl dX16_lay_2 ?_
  refine z_cOV (pc := 5) gX (zI_ok gX hAX) [.int (nI j)] [] [1, 4] (met_X2_isOn l D B0 sa (c 16) (c 1) (c 0) wn (fun i_ => c (2 + i_)) j (by first | assumption | omega)) q1179 q918 q919 q49 q920 (zm 1 rfl) (ci := 2) rfl rfl hd_X2_isOn ⟨rfl, rfl⟩ ⟨(Nat.le_of_ble_eq_true rfl), (Nat.le_of_ble_eq_true rfl)⟩ rfl rfl rfl (Nat.le_of_ble_eq_true rfl) ⟨(Nat.le_of_ble_eq_true rfl), (Nat.le_of_ble_eq_true rfl)⟩ dX16_lay_5 ?_
  intro _ hu5
  refine z_eq (lv₂ := [(0, .ref q), (1, .ref (sa 0)), (2, .int (nI v))]) (st₂ := [.int (bI (mOn ((fun i_ => c (2 + i_)) j)))]) ?_ rfl rfl
  refine z_top (bI (mOn (c (2 + j)))) (rfl) ?_
  refine z_if_eq (pc := 8) gX 36 dX16_lay_8 (by decide) (fun c8 => ?_) (fun c8 => ?_)
  · skip
    have k8 : (mOn (c (2 + j))) = false := bI_eq0 c8
    refine z_iconst (pc := 36) gX 0 dX16_lay_36 (by decide) ?_
    refine z_istore_n (pc := 37) gX [1, 2, 3, 0] [(0, .ref q), (1, .ref (sa 0)), (2, .int (nI v)), (3, .int 0)] dX16_lay_37 rfl (by decide) rfl ?_
    refine z_aload_n (pc := 38) gX 1 dX16_lay_38 rfl rfl ?_
    refine z_get (pc := 39) gX (zI_ok gX hAX) (zm 1 rfl) (ci := 2) (C := RX2) (T := TX2) (N := 8) rfl in_X2 6 (by decide) q169 (fun _ h => h) (v := .ref (sa 3)) rfl dX16_lay_39 ?_
    refine z_aload_n (pc := 42) gX 0 dX16_lay_42 rfl rfl ?_
    refine z_get (pc := 43) gX (zI_ok gX hAX) (zm 0 rfl) (ci := 14) (C := RX16) (T := TX16) (N := 2) rfl in_X16 0 (by decide) q1078 (fun _ h => h) (v := .int (nI j)) rfl dX16_lay_43 ?_
    refine z_iload_n (pc := 46) gX 2 dX16_lay_46 rfl rfl ?_
    refine z_iast (pc := 47) gX hAX 4 (j := j) (n := 7) (f := (fun i_ => c (2 + i_))) rfl (by omega) (by decide) [[(q, .inr (14, [.int (nI j), .ref o]))], [(sa 0, .inr (2, [.int (c 16), .int (c 1), .int (c 0), .int wn, .ref (sa 1), .ref (sa 2), .ref (sa 3), .ref (sa 4)]))], [(sa 1, .inr (16, [.int md, .ref d, .int (nI n)]))], [(sa 2, .inl (D.1 100, 7, .inl (fun i_ => c (9 + i_))))], [(sa 3, .inl (D.1 100, 7, .inl (upd (fun i_ => c (2 + i_)) j (nI v))))], [(sa 4, .inl (D.1 100, 7, .inl od))], [(d, .inl (D.1 104, 10, .inr (.inr (.inr (.inr (rF ra n))))))], T] rfl dX16_lay_47 ?_
    refine z_ext 3 (fun i_ => (upd c (2 + j) (nI v)) (9 + i_)) rfl (fun q hq => (pk_un (by omega)).symm) [[(q, .inr (14, [.int (nI j), .ref o]))], [(sa 0, .inr (2, [.int (c 16), .int (c 1), .int (c 0), .int wn, .ref (sa 1), .ref (sa 2), .ref (sa 3), .ref (sa 4)]))], [(sa 1, .inr (16, [.int md, .ref d, .int (nI n)]))], [(sa 2, .inl (D.1 100, 7, .inl (fun i_ => (upd c (2 + j) (nI v)) (9 + i_))))], [(sa 3, .inl (D.1 100, 7, .inl (upd (fun i_ => c (2 + i_)) j (nI v))))], [(sa 4, .inl (D.1 100, 7, .inl od))], [(d, .inl (D.1 104, 10, .inr (.inr (.inr (.inr (rF ra n))))))], T] rfl ?_
    refine z_ext 4 (fun i_ => (upd c (2 + j) (nI v)) (2 + i_)) rfl (fun q hq => upW j q) [[(q, .inr (14, [.int (nI j), .ref o]))], [(sa 0, .inr (2, [.int (c 16), .int (c 1), .int (c 0), .int wn, .ref (sa 1), .ref (sa 2), .ref (sa 3), .ref (sa 4)]))], [(sa 1, .inr (16, [.int md, .ref d, .int (nI n)]))], [(sa 2, .inl (D.1 100, 7, .inl (fun i_ => (upd c (2 + j) (nI v)) (9 + i_))))], [(sa 3, .inl (D.1 100, 7, .inl (fun i_ => (upd c (2 + j) (nI v)) (2 + i_))))], [(sa 4, .inl (D.1 100, 7, .inl od))], [(d, .inl (D.1 104, 10, .inr (.inr (.inr (.inr (rF ra n))))))], T] rfl ?_
    refine z_weq [[(q, .inr (14, [.int (nI j), .ref o]))], [(sa 0, .inr (2, [.int ((upd c (2 + j) (nI v)) 16), .int ((upd c (2 + j) (nI v)) 1), .int ((upd c (2 + j) (nI v)) 0), .int wn, .ref (sa 1), .ref (sa 2), .ref (sa 3), .ref (sa 4)]))], [(sa 1, .inr (16, [.int md, .ref d, .int (nI n)]))], [(sa 2, .inl (D.1 100, 7, .inl (fun i_ => (upd c (2 + j) (nI v)) (9 + i_))))], [(sa 3, .inl (D.1 100, 7, .inl (fun i_ => (upd c (2 + j) (nI v)) (2 + i_))))], [(sa 4, .inl (D.1 100, 7, .inl od))], [(d, .inl (D.1 104, 10, .inr (.inr (.inr (.inr (rF ra n))))))], T] (by rw [show (upd c (2 + j) (nI v)) 16 = c 16 from pk_un (by omega), show (upd c (2 + j) (nI v)) 1 = c 1 from pk_un (by omega), show (upd c (2 + j) (nI v)) 0 = c 0 from pk_un (by omega)]) ?_
    refine z_iload_n (pc := 48) gX 3 dX16_lay_48 rfl rfl ?_
    exact z_rzm gX hQX () trivial (zbv (by rw [k8]; rfl)) rfl (by first | decide | omega) (by first | decide | omega) dX16_lay_49
  · skip
    have k8 : (mOn (c (2 + j))) = true := bI_ne0 c8
    refine z_aload_n (pc := 11) gX 1 dX16_lay_11 rfl rfl ?_
    refine z_aload_n (pc := 12) gX 0 dX16_lay_12 rfl rfl ?_
    refine z_get (pc := 13) gX (zI_ok gX hAX) (zm 0 rfl) (ci := 14) (C := RX16) (T := TX16) (N := 2) rfl in_X16 0 (by decide) q1078 (fun _ h => h) (v := .int (nI j)) rfl dX16_lay_13 ?_
    refine z_iload_n (pc := 16) gX 2 dX16_lay_16 rfl rfl ?_
    refine z_aload_n (pc := 17) gX 1 dX16_lay_17 rfl rfl ?_
    refine z_get (pc := 18) gX (zI_ok gX hAX) (zm 1 rfl) (ci := 2) (C := RX2) (T := TX2) (N := 8) rfl in_X2 5 (by decide) q163 (fun _ h => h) (v := .ref (sa 2)) rfl dX16_lay_18 ?_
    refine z_aload_n (pc := 21) gX 0 dX16_lay_21 rfl rfl ?_
    refine z_get (pc := 22) gX (zI_ok gX hAX) (zm 0 rfl) (ci := 14) (C := RX16) (T := TX16) (N := 2) rfl in_X16 0 (by decide) q1078 (fun _ h => h) (v := .int (nI j)) rfl dX16_lay_22 ?_
    refine z_iald (pc := 25) gX (zI_ok gX hAX) (j := j) (n := 7) (f := (fun i_ => c (9 + i_))) (zm 3 rfl) (by omega) (by decide) dX16_lay_25 ?_
    refine z_top (c (9 + j)) rfl ?_
    refine z_cOV (pc := 26) gX (zI_ok gX hAX) [.int (nI j), .int (nI v), .int (c (9 + j))] [] [1, 2, 3, 4, 5, 6, 7] (met_X2_isFree l D B0 sa (c 16) (c 1) (c 0) wn md d n (fun i_ => c (9 + i_)) (fun i_ => c (2 + i_)) od ra (fun i_ => c (18 + i_)) T j (nI v) (c (9 + j)) hn7 hK.2.2.2.2.2 hK.2.2.2.2.1 hj (hK.2.2.2.2.1 j hj)) q1180 q869 q870 q49 q871 (zm 1 rfl) (ci := 2) rfl rfl hd_X2_isFree ⟨rfl, rfl⟩ ⟨(Nat.le_of_ble_eq_true rfl), (Nat.le_of_ble_eq_true rfl)⟩ rfl rfl rfl (Nat.le_of_ble_eq_true rfl) ⟨(Nat.le_of_ble_eq_true rfl), (Nat.le_of_ble_eq_true rfl)⟩ dX16_lay_26 ?_
    intro _ hu26
    refine z_eq (lv₂ := [(0, .ref q), (1, .ref (sa 0)), (2, .int (nI v))]) (st₂ := [.int (bI (mFreeTo (pkC (c 16) (c 1) (c 0) n (fun i_ => c (9 + i_)) (fun i_ => c (2 + i_)) (fun i_ => c (18 + i_))) j (nI v) (c (9 + j)) n))]) ?_ rfl rfl
    refine z_top (bI (mFreeTo c j (nI v) (c (9 + j)) n)) (by rw [pkC_eta hK.2.1]) ?_
    refine z_if_eq (pc := 29) gX 36 dX16_lay_29 (by decide) (fun c29 => ?_) (fun c29 => ?_)
    · skip
      have k29 : (mFreeTo c j (nI v) (c (9 + j)) n) = false := bI_eq0 c29
      refine z_iconst (pc := 36) gX 0 dX16_lay_36 (by decide) ?_
      refine z_istore_n (pc := 37) gX [1, 2, 3, 0] [(0, .ref q), (1, .ref (sa 0)), (2, .int (nI v)), (3, .int 0)] dX16_lay_37 rfl (by decide) rfl ?_
      refine z_aload_n (pc := 38) gX 1 dX16_lay_38 rfl rfl ?_
      refine z_get (pc := 39) gX (zI_ok gX hAX) (zm 1 rfl) (ci := 2) (C := RX2) (T := TX2) (N := 8) rfl in_X2 6 (by decide) q169 (fun _ h => h) (v := .ref (sa 3)) rfl dX16_lay_39 ?_
      refine z_aload_n (pc := 42) gX 0 dX16_lay_42 rfl rfl ?_
      refine z_get (pc := 43) gX (zI_ok gX hAX) (zm 0 rfl) (ci := 14) (C := RX16) (T := TX16) (N := 2) rfl in_X16 0 (by decide) q1078 (fun _ h => h) (v := .int (nI j)) rfl dX16_lay_43 ?_
      refine z_iload_n (pc := 46) gX 2 dX16_lay_46 rfl rfl ?_
      refine z_iast (pc := 47) gX hAX 4 (j := j) (n := 7) (f := (fun i_ => c (2 + i_))) rfl (by omega) (by decide) [[(q, .inr (14, [.int (nI j), .ref o]))], [(sa 0, .inr (2, [.int (c 16), .int (c 1), .int (c 0), .int wn, .ref (sa 1), .ref (sa 2), .ref (sa 3), .ref (sa 4)]))], [(sa 1, .inr (16, [.int md, .ref d, .int (nI n)]))], [(sa 2, .inl (D.1 100, 7, .inl (fun i_ => c (9 + i_))))], [(sa 3, .inl (D.1 100, 7, .inl (upd (fun i_ => c (2 + i_)) j (nI v))))], [(sa 4, .inl (D.1 100, 7, .inl od))], [(d, .inl (D.1 104, 10, .inr (.inr (.inr (.inr (rF ra n))))))], T] rfl dX16_lay_47 ?_
      refine z_ext 3 (fun i_ => (upd c (2 + j) (nI v)) (9 + i_)) rfl (fun q hq => (pk_un (by omega)).symm) [[(q, .inr (14, [.int (nI j), .ref o]))], [(sa 0, .inr (2, [.int (c 16), .int (c 1), .int (c 0), .int wn, .ref (sa 1), .ref (sa 2), .ref (sa 3), .ref (sa 4)]))], [(sa 1, .inr (16, [.int md, .ref d, .int (nI n)]))], [(sa 2, .inl (D.1 100, 7, .inl (fun i_ => (upd c (2 + j) (nI v)) (9 + i_))))], [(sa 3, .inl (D.1 100, 7, .inl (upd (fun i_ => c (2 + i_)) j (nI v))))], [(sa 4, .inl (D.1 100, 7, .inl od))], [(d, .inl (D.1 104, 10, .inr (.inr (.inr (.inr (rF ra n))))))], T] rfl ?_
      refine z_ext 4 (fun i_ => (upd c (2 + j) (nI v)) (2 + i_)) rfl (fun q hq => upW j q) [[(q, .inr (14, [.int (nI j), .ref o]))], [(sa 0, .inr (2, [.int (c 16), .int (c 1), .int (c 0), .int wn, .ref (sa 1), .ref (sa 2), .ref (sa 3), .ref (sa 4)]))], [(sa 1, .inr (16, [.int md, .ref d, .int (nI n)]))], [(sa 2, .inl (D.1 100, 7, .inl (fun i_ => (upd c (2 + j) (nI v)) (9 + i_))))], [(sa 3, .inl (D.1 100, 7, .inl (fun i_ => (upd c (2 + j) (nI v)) (2 + i_))))], [(sa 4, .inl (D.1 100, 7, .inl od))], [(d, .inl (D.1 104, 10, .inr (.inr (.inr (.inr (rF ra n))))))], T] rfl ?_
      refine z_weq [[(q, .inr (14, [.int (nI j), .ref o]))], [(sa 0, .inr (2, [.int ((upd c (2 + j) (nI v)) 16), .int ((upd c (2 + j) (nI v)) 1), .int ((upd c (2 + j) (nI v)) 0), .int wn, .ref (sa 1), .ref (sa 2), .ref (sa 3), .ref (sa 4)]))], [(sa 1, .inr (16, [.int md, .ref d, .int (nI n)]))], [(sa 2, .inl (D.1 100, 7, .inl (fun i_ => (upd c (2 + j) (nI v)) (9 + i_))))], [(sa 3, .inl (D.1 100, 7, .inl (fun i_ => (upd c (2 + j) (nI v)) (2 + i_))))], [(sa 4, .inl (D.1 100, 7, .inl od))], [(d, .inl (D.1 104, 10, .inr (.inr (.inr (.inr (rF ra n))))))], T] (by rw [show (upd c (2 + j) (nI v)) 16 = c 16 from pk_un (by omega), show (upd c (2 + j) (nI v)) 1 = c 1 from pk_un (by omega), show (upd c (2 + j) (nI v)) 0 = c 0 from pk_un (by omega)]) ?_
      refine z_iload_n (pc := 48) gX 3 dX16_lay_48 rfl rfl ?_
      exact z_rzm gX hQX () trivial (zbv (by rw [k8, k29]; rfl)) rfl (by first | decide | omega) (by first | decide | omega) dX16_lay_49
    · skip
      have k29 : (mFreeTo c j (nI v) (c (9 + j)) n) = true := bI_ne0 c29
      refine z_iconst (pc := 32) gX 1 dX16_lay_32 (by decide) ?_
      refine z_goto (pc := 33) gX 37 dX16_lay_33 (by decide) ?_
      refine z_istore_n (pc := 37) gX [1, 2, 3, 0] [(0, .ref q), (1, .ref (sa 0)), (2, .int (nI v)), (3, .int 1)] dX16_lay_37 rfl (by decide) rfl ?_
      refine z_aload_n (pc := 38) gX 1 dX16_lay_38 rfl rfl ?_
      refine z_get (pc := 39) gX (zI_ok gX hAX) (zm 1 rfl) (ci := 2) (C := RX2) (T := TX2) (N := 8) rfl in_X2 6 (by decide) q169 (fun _ h => h) (v := .ref (sa 3)) rfl dX16_lay_39 ?_
      refine z_aload_n (pc := 42) gX 0 dX16_lay_42 rfl rfl ?_
      refine z_get (pc := 43) gX (zI_ok gX hAX) (zm 0 rfl) (ci := 14) (C := RX16) (T := TX16) (N := 2) rfl in_X16 0 (by decide) q1078 (fun _ h => h) (v := .int (nI j)) rfl dX16_lay_43 ?_
      refine z_iload_n (pc := 46) gX 2 dX16_lay_46 rfl rfl ?_
      refine z_iast (pc := 47) gX hAX 4 (j := j) (n := 7) (f := (fun i_ => c (2 + i_))) rfl (by omega) (by decide) [[(q, .inr (14, [.int (nI j), .ref o]))], [(sa 0, .inr (2, [.int (c 16), .int (c 1), .int (c 0), .int wn, .ref (sa 1), .ref (sa 2), .ref (sa 3), .ref (sa 4)]))], [(sa 1, .inr (16, [.int md, .ref d, .int (nI n)]))], [(sa 2, .inl (D.1 100, 7, .inl (fun i_ => c (9 + i_))))], [(sa 3, .inl (D.1 100, 7, .inl (upd (fun i_ => c (2 + i_)) j (nI v))))], [(sa 4, .inl (D.1 100, 7, .inl od))], [(d, .inl (D.1 104, 10, .inr (.inr (.inr (.inr (rF ra n))))))], T] rfl dX16_lay_47 ?_
      refine z_ext 3 (fun i_ => (upd c (2 + j) (nI v)) (9 + i_)) rfl (fun q hq => (pk_un (by omega)).symm) [[(q, .inr (14, [.int (nI j), .ref o]))], [(sa 0, .inr (2, [.int (c 16), .int (c 1), .int (c 0), .int wn, .ref (sa 1), .ref (sa 2), .ref (sa 3), .ref (sa 4)]))], [(sa 1, .inr (16, [.int md, .ref d, .int (nI n)]))], [(sa 2, .inl (D.1 100, 7, .inl (fun i_ => (upd c (2 + j) (nI v)) (9 + i_))))], [(sa 3, .inl (D.1 100, 7, .inl (upd (fun i_ => c (2 + i_)) j (nI v))))], [(sa 4, .inl (D.1 100, 7, .inl od))], [(d, .inl (D.1 104, 10, .inr (.inr (.inr (.inr (rF ra n))))))], T] rfl ?_
      refine z_ext 4 (fun i_ => (upd c (2 + j) (nI v)) (2 + i_)) rfl (fun q hq => upW j q) [[(q, .inr (14, [.int (nI j), .ref o]))], [(sa 0, .inr (2, [.int (c 16), .int (c 1), .int (c 0), .int wn, .ref (sa 1), .ref (sa 2), .ref (sa 3), .ref (sa 4)]))], [(sa 1, .inr (16, [.int md, .ref d, .int (nI n)]))], [(sa 2, .inl (D.1 100, 7, .inl (fun i_ => (upd c (2 + j) (nI v)) (9 + i_))))], [(sa 3, .inl (D.1 100, 7, .inl (fun i_ => (upd c (2 + j) (nI v)) (2 + i_))))], [(sa 4, .inl (D.1 100, 7, .inl od))], [(d, .inl (D.1 104, 10, .inr (.inr (.inr (.inr (rF ra n))))))], T] rfl ?_
      refine z_weq [[(q, .inr (14, [.int (nI j), .ref o]))], [(sa 0, .inr (2, [.int ((upd c (2 + j) (nI v)) 16), .int ((upd c (2 + j) (nI v)) 1), .int ((upd c (2 + j) (nI v)) 0), .int wn, .ref (sa 1), .ref (sa 2), .ref (sa 3), .ref (sa 4)]))], [(sa 1, .inr (16, [.int md, .ref d, .int (nI n)]))], [(sa 2, .inl (D.1 100, 7, .inl (fun i_ => (upd c (2 + j) (nI v)) (9 + i_))))], [(sa 3, .inl (D.1 100, 7, .inl (fun i_ => (upd c (2 + j) (nI v)) (2 + i_))))], [(sa 4, .inl (D.1 100, 7, .inl od))], [(d, .inl (D.1 104, 10, .inr (.inr (.inr (.inr (rF ra n))))))], T] (by rw [show (upd c (2 + j) (nI v)) 16 = c 16 from pk_un (by omega), show (upd c (2 + j) (nI v)) 1 = c 1 from pk_un (by omega), show (upd c (2 + j) (nI v)) 0 = c 0 from pk_un (by omega)]) ?_
      refine z_iload_n (pc := 48) gX 3 dX16_lay_48 rfl rfl ?_
      exact z_rzm gX hQX () trivial (zbv (by rw [k8, k29]; rfl)) rfl (by first | decide | omega) (by first | decide | omega) dX16_lay_49
theorem hd_X16_lay : zHd yX16_lay 2 := by unfold zHd; decide +kernel

set_option maxHeartbeats 4000000 in
theorem met_X13_lay (l : Launch) (D : va_G) (B0 : Nat) (A : Nat → Prop) (q : Nat) (sa : Nat → Nat) (wn : Int32) (md : Int32) (d : Nat) (n : Nat) (c : Nat → Int32) (od : Nat → Int32) (ra : Nat → Nat) (T : va_W) (k : Nat) (j : Nat) (v : Nat) (hK : kOK T n k ra c) (hj : j < n) (hv1 : 1 ≤ v) (hv5 : v ≤ 5) : Met l yX13_lay (ws_ yX13_lay cX13_lay 3 (some .boolean)) (zRm 6 1 1) (va_Pc [.ref q, .ref (sa 0), .int (nI v)] (zPre B0 D A [[(q, .inr (12, [.int (nI j)]))], [(sa 0, .inr (2, [.int (c 16), .int (c 1), .int (c 0), .int wn, .ref (sa 1), .ref (sa 2), .ref (sa 3), .ref (sa 4)]))], [(sa 1, .inr (16, [.int md, .ref d, .int (nI n)]))], [(sa 2, .inl (D.1 100, 7, .inl (fun i_ => c (9 + i_))))], [(sa 3, .inl (D.1 100, 7, .inl (fun i_ => c (2 + i_))))], [(sa 4, .inl (D.1 100, 7, .inl od))], [(d, .inl (D.1 104, 10, .inr (.inr (.inr (.inr (rF ra n))))))], T])) (zQ (S := Nat) (fun u => (fun (z : Nat) => True) u) (fun u => (fun (z : Nat) => some (.int (bI true))) u) (fun u => (fun (z : Nat) => [[(q, .inr (12, [.int (nI j)]))], [(sa 0, .inr (2, [.int ((upd c (18 + j) (nI v)) 16), .int ((upd c (18 + j) (nI v)) 1), .int ((upd c (18 + j) (nI v)) 0), .int wn, .ref (sa 1), .ref (sa 2), .ref (sa 3), .ref (sa 4)]))], [(sa 1, .inr (16, [.int md, .ref d, .int (nI n)]))], [(sa 2, .inl (D.1 100, 7, .inl (fun i_ => (upd c (18 + j) (nI v)) (9 + i_))))], [(sa 3, .inl (D.1 100, 7, .inl (fun i_ => (upd c (18 + j) (nI v)) (2 + i_))))], [(sa 4, .inl (D.1 100, 7, .inl od))], [(d, .inl (D.1 104, 10, .inr (.inr (.inr (.inr (rF (raU ra j z) n))))))], (z, .inr (6 + v, [.int (nI j)])) :: T]) u) D A) 1 1 A := by
  refine z_entry (by decide +kernel) (Nat.le_of_ble_eq_true rfl) (fun pX eX sX mX argsX blX mtX cX QX hQX gX hAX hnm => ?_)
  refine z_eq (lv₂ := [(0, .ref q), (1, .ref (sa 0)), (2, .int (nI v))]) (st₂ := []) ?_ rfl rfl
  have hn7 := hK.1
  refine z_aload_n (pc := 0) gX 1 dX13_lay_0 rfl rfl ?_
  refine z_get (pc := 1) gX (zI_ok gX hAX) (zm 1 rfl) (ci := 2) (C := RX2) (T := TX2) (N := 8) rfl in_X2 4 (by decide) q158 (fun _ h => h) (v := .ref (sa 1)) rfl dX13_lay_1 ?_
  refine z_aload_n (pc := 4) gX 0 dX13_lay_4 rfl rfl ?_
  refine z_get (pc := 5) gX (zI_ok gX hAX) (zm 0 rfl) (ci := 12) (C := RX13) (T := TX13) (N := 1) rfl in_X13 0 (by decide) q1051 (fun _ h => h) (v := .int (nI j)) rfl dX13_lay_5 ?_
  refine z_iload_n (pc := 8) gX 2 dX13_lay_8 rfl rfl ?_
  refine z_aload_n (pc := 9) gX 0 dX13_lay_9 rfl rfl ?_
  refine z_get (pc := 10) gX (zI_ok gX hAX) (zm 0 rfl) (ci := 12) (C := RX13) (T := TX13) (N := 1) rfl in_X13 0 (by decide) q1051 (fun _ h => h) (v := .int (nI j)) rfl dX13_lay_10 ?_
  refine z_cMSN2 (pc := 13) gX hAX [.int (nI v), .int (nI j)] [.int (nI j), .ref (sa 1)] [] [0, 1, 2, 3, 4, 5, 6, 7] (fun A1 => met_X0_riderBy l D B0 A1 v j hv1 hv5) (zm 16 rfl) q667 q47 hd_X0_riderBy q668 ⟨rfl, rfl⟩ ⟨(Nat.le_of_ble_eq_true rfl), (Nat.le_of_ble_eq_true rfl)⟩ rfl rfl rfl rfl rfl (Nat.le_of_ble_eq_true rfl) ⟨(Nat.le_of_ble_eq_true rfl), (Nat.le_of_ble_eq_true rfl)⟩ dX13_lay_13 ?_
  intro u13 hu13
  obtain ⟨q_13, rfl⟩ : ∃ z, z = u13 := ⟨_, rfl⟩
  refine z_re [1, 2, 3, 4, 5, 6, 7, 0, 8] [[(q, .inr (12, [.int (nI j)]))], [(sa 0, .inr (2, [.int (c 16), .int (c 1), .int (c 0), .int wn, .ref (sa 1), .ref (sa 2), .ref (sa 3), .ref (sa 4)]))], [(sa 1, .inr (16, [.int md, .ref d, .int (nI n)]))], [(sa 2, .inl (D.1 100, 7, .inl (fun i_ => c (9 + i_))))], [(sa 3, .inl (D.1 100, 7, .inl (fun i_ => c (2 + i_))))], [(sa 4, .inl (D.1 100, 7, .inl od))], [(d, .inl (D.1 104, 10, .inr (.inr (.inr (.inr (rF ra n))))))], [(q_13, .inr (6 + v, [.int (nI j)]))], T] rfl (zpl 9 rfl (by decide +kernel)) ?_
  refine z_norm [[(q, .inr (12, [.int (nI j)]))], [(sa 0, .inr (2, [.int (c 16), .int (c 1), .int (c 0), .int wn, .ref (sa 1), .ref (sa 2), .ref (sa 3), .ref (sa 4)]))], [(sa 1, .inr (16, [.int md, .ref d, .int (nI n)]))], [(sa 2, .inl (D.1 100, 7, .inl (fun i_ => c (9 + i_))))], [(sa 3, .inl (D.1 100, 7, .inl (fun i_ => c (2 + i_))))], [(sa 4, .inl (D.1 100, 7, .inl od))], [(d, .inl (D.1 104, 10, .inr (.inr (.inr (.inr (rF ra n))))))], [(q_13, .inr (6 + v, [.int (nI j)]))], T] 1 1 ?_ rfl rfl rfl
  refine z_eq (lv₂ := [(0, .ref q), (1, .ref (sa 0)), (2, .int (nI v))]) (st₂ := [.ref q_13, .int (nI j), .ref (sa 1)]) ?_ rfl rfl
  obtain ⟨rr, hcc, hcr⟩ := rCl v hv1 hv5
  refine z_cMF (n := 2) (pc := 16) gX hAX [.int (nI j), .ref q_13] [] [2, 6, 7] [0, 1, 3, 4, 5, 8] (fun A1 => met_J2_set l D B0 A1 (sa 1) md d n (rF ra n) j (ra j) [(q_13, .inr (6 + v, [.int (nI j)]))] q_13 (6 + v) [.int (nI j)] rr (by omega) hj (rF_lt hj) List.mem_cons_self hcc) q1161 q1166 q1164 q52 (gX.zk.face ⟨by decide +kernel, by decide +kernel⟩ q1163 q1162 q1167 q1165 q660) (by unfold zHd; decide +kernel) q1168 (zm 2 rfl) (ci := 16) rfl ⟨rfl, rfl⟩ ⟨(Nat.le_of_ble_eq_true rfl), (Nat.le_of_ble_eq_true rfl)⟩ rfl rfl (zpl 9 rfl (by decide +kernel)) rfl rfl (Nat.le_of_ble_eq_true rfl) ⟨(Nat.le_of_ble_eq_true rfl), (Nat.le_of_ble_eq_true rfl)⟩ dX13_lay_16 ?_
  intro _ hu16
  refine z_re [3, 4, 0, 5, 6, 7, 1, 2, 8] [[(q, .inr (12, [.int (nI j)]))], [(sa 0, .inr (2, [.int (c 16), .int (c 1), .int (c 0), .int wn, .ref (sa 1), .ref (sa 2), .ref (sa 3), .ref (sa 4)]))], [(sa 1, .inr (16, [.int md, .ref d, .int (nI n)]))], [(sa 2, .inl (D.1 100, 7, .inl (fun i_ => c (9 + i_))))], [(sa 3, .inl (D.1 100, 7, .inl (fun i_ => c (2 + i_))))], [(sa 4, .inl (D.1 100, 7, .inl od))], [(d, .inl (D.1 104, 10, .inr (.inr (.inr (.inr (va_up (rF ra n) j (some q_13)))))))], [(q_13, .inr (6 + v, [.int (nI j)]))], T] rfl (zpl 9 rfl (by decide +kernel)) ?_
  refine z_eq (lv₂ := [(0, .ref q), (1, .ref (sa 0)), (2, .int (nI v))]) (st₂ := [.ref (ra j)]) ?_ rfl rfl
  refine z_weq [[(q, .inr (12, [.int (nI j)]))], [(sa 0, .inr (2, [.int (c 16), .int (c 1), .int (c 0), .int wn, .ref (sa 1), .ref (sa 2), .ref (sa 3), .ref (sa 4)]))], [(sa 1, .inr (16, [.int md, .ref d, .int (nI n)]))], [(sa 2, .inl (D.1 100, 7, .inl (fun i_ => c (9 + i_))))], [(sa 3, .inl (D.1 100, 7, .inl (fun i_ => c (2 + i_))))], [(sa 4, .inl (D.1 100, 7, .inl od))], [(d, .inl (D.1 104, 10, .inr (.inr (.inr (.inr (rF (raU ra j q_13) n))))))], [(q_13, .inr (6 + v, [.int (nI j)]))], T] (by rw [rF_up hj]) ?_
  refine z_ext 3 (fun i_ => (upd c (18 + j) (nI v)) (9 + i_)) rfl (fun q hq => (pk_un (by omega)).symm) [[(q, .inr (12, [.int (nI j)]))], [(sa 0, .inr (2, [.int (c 16), .int (c 1), .int (c 0), .int wn, .ref (sa 1), .ref (sa 2), .ref (sa 3), .ref (sa 4)]))], [(sa 1, .inr (16, [.int md, .ref d, .int (nI n)]))], [(sa 2, .inl (D.1 100, 7, .inl (fun i_ => (upd c (18 + j) (nI v)) (9 + i_))))], [(sa 3, .inl (D.1 100, 7, .inl (fun i_ => c (2 + i_))))], [(sa 4, .inl (D.1 100, 7, .inl od))], [(d, .inl (D.1 104, 10, .inr (.inr (.inr (.inr (rF (raU ra j q_13) n))))))], [(q_13, .inr (6 + v, [.int (nI j)]))], T] rfl ?_
  refine z_ext 4 (fun i_ => (upd c (18 + j) (nI v)) (2 + i_)) rfl (fun q hq => (pk_un (by omega)).symm) [[(q, .inr (12, [.int (nI j)]))], [(sa 0, .inr (2, [.int (c 16), .int (c 1), .int (c 0), .int wn, .ref (sa 1), .ref (sa 2), .ref (sa 3), .ref (sa 4)]))], [(sa 1, .inr (16, [.int md, .ref d, .int (nI n)]))], [(sa 2, .inl (D.1 100, 7, .inl (fun i_ => (upd c (18 + j) (nI v)) (9 + i_))))], [(sa 3, .inl (D.1 100, 7, .inl (fun i_ => (upd c (18 + j) (nI v)) (2 + i_))))], [(sa 4, .inl (D.1 100, 7, .inl od))], [(d, .inl (D.1 104, 10, .inr (.inr (.inr (.inr (rF (raU ra j q_13) n))))))], [(q_13, .inr (6 + v, [.int (nI j)]))], T] rfl ?_
  refine z_weq [[(q, .inr (12, [.int (nI j)]))], [(sa 0, .inr (2, [.int ((upd c (18 + j) (nI v)) 16), .int ((upd c (18 + j) (nI v)) 1), .int ((upd c (18 + j) (nI v)) 0), .int wn, .ref (sa 1), .ref (sa 2), .ref (sa 3), .ref (sa 4)]))], [(sa 1, .inr (16, [.int md, .ref d, .int (nI n)]))], [(sa 2, .inl (D.1 100, 7, .inl (fun i_ => (upd c (18 + j) (nI v)) (9 + i_))))], [(sa 3, .inl (D.1 100, 7, .inl (fun i_ => (upd c (18 + j) (nI v)) (2 + i_))))], [(sa 4, .inl (D.1 100, 7, .inl od))], [(d, .inl (D.1 104, 10, .inr (.inr (.inr (.inr (rF (raU ra j q_13) n))))))], [(q_13, .inr (6 + v, [.int (nI j)]))], T] (by rw [show (upd c (18 + j) (nI v)) 16 = c 16 from pk_un (by omega), show (upd c (18 + j) (nI v)) 1 = c 1 from pk_un (by omega), show (upd c (18 + j) (nI v)) 0 = c 0 from pk_un (by omega)]) ?_
  refine z_ws [[(q, .inr (12, [.int (nI j)]))], [(sa 0, .inr (2, [.int ((upd c (18 + j) (nI v)) 16), .int ((upd c (18 + j) (nI v)) 1), .int ((upd c (18 + j) (nI v)) 0), .int wn, .ref (sa 1), .ref (sa 2), .ref (sa 3), .ref (sa 4)]))], [(sa 1, .inr (16, [.int md, .ref d, .int (nI n)]))], [(sa 2, .inl (D.1 100, 7, .inl (fun i_ => (upd c (18 + j) (nI v)) (9 + i_))))], [(sa 3, .inl (D.1 100, 7, .inl (fun i_ => (upd c (18 + j) (nI v)) (2 + i_))))], [(sa 4, .inl (D.1 100, 7, .inl od))], [(d, .inl (D.1 104, 10, .inr (.inr (.inr (.inr (rF (raU ra j q_13) n))))))], (q_13, .inr (6 + v, [.int (nI j)])) :: T] (gs_perm ((q_13, .inr (6 + v, [.int (nI j)])) :: T) 7 2 rfl pool_cons) ?_
  refine z_pop (pc := 21) gX dX13_lay_21 rfl ?_
  refine z_iconst (pc := 22) gX 1 dX13_lay_22 (by decide) ?_
  exact z_rzm gX hQX q_13 trivial (zbv rfl) rfl (by first | decide | omega) (by first | decide | omega) dX13_lay_23
theorem hd_X13_lay : zHd yX13_lay 2 := by unfold zHd; decide +kernel

set_option maxHeartbeats 4000000 in
theorem met_X3_init (l : Launch) (D : va_G) (B0 : Nat) (A : Nat → Prop) (q : Nat)  : Met l yX3_init (ws_ yX3_init cX3_init 1 none) (zRm 2 1 16) (va_Pc [.ref q] (zPre B0 D A [[(q, .inr (3, [.null, .int 0]))]])) (zQ (S := Nat) (fun u => (fun (tb : Nat) => True) u) (fun u => (fun (tb : Nat) => none) u) (fun u => (fun (tb : Nat) => [[(q, .inr (3, [.ref tb, .int 0]))], [(tb, .inl (D.1 100, 16, .inl (fun _ => 0)))]]) u) D A) 1 16 A := by
  refine z_entry (by decide +kernel) (Nat.le_of_ble_eq_true rfl) (fun pX eX sX mX argsX blX mtX cX QX hQX gX hAX hnm => ?_)
  refine z_eq (lv₂ := [(0, .ref q)]) (st₂ := []) ?_ rfl rfl
  refine z_aload_n (pc := 0) gX 0 dX3_init_0 rfl rfl ?_
  refine z_objInit (pc := 1) gX q197 q_oi2 q_oi3 dX3_init_1 (Nat.le_of_ble_eq_true rfl) (Nat.le_of_ble_eq_true rfl) ?_
  refine z_aload_n (pc := 4) gX 0 dX3_init_4 rfl rfl ?_
  refine z_bipush (pc := 5) gX 16 dX3_init_5 (by decide) ?_
  refine z_top (nI 16) rfl ?_
  refine z_newa (pc := 7) gX hAX (atype := .int) (ty := .int) 0 rfl rfl (by intro C h; cases h) q190 (16, .inl (fun _ => 0)) (fun _ => rfl) (by first | decide | omega) (by first | decide | omega) (by first | decide | (simp only [zRm]; omega)) (by first | decide | (simp only [zRm]; omega)) dX3_init_7 (fun q7 => ?_)
  refine z_norm [[(q, .inr (3, [.null, .int 0]))], [(q7, .inl (D.1 100, 16, .inl (fun _ => 0)))]] 1 16 ?_ rfl rfl rfl
  refine z_putF (pc := 9) gX hAX hnm 0 rfl (ci := 3) (C := RX3) (T := TX3) (N := 2) rfl in_X3 tyX3 tyX3_ok nmX3 0 (by decide) q198 (fun _ h => h) rfl rfl (v := .ref q7) rfl rfl (Nat.le_of_ble_eq_true rfl) [[(q, .inr (3, [.ref q7, .int 0]))], [(q7, .inl (D.1 100, 16, .inl (fun _ => 0)))]] rfl dX3_init_9 ?_
  exact z_vret gX hQX q7 trivial rfl rfl (by first | decide | omega) (by first | decide | omega) dX3_init_12
theorem hd_X3_init : zHd yX3_init 0 := by unfold zHd; decide +kernel

set_option maxHeartbeats 4000000 in
theorem met_X3_begins (l : Launch) (D : va_G) (B0 : Nat) (A : Nat → Prop) (q : Nat) (tb : Nat) (t : Nat) (tf : Nat → Int32) (b : Int32) (ht : t ≤ 16) : Met l yX3_begins (ws_ yX3_begins cX3_begins 2 none) (zRm 1 0 0) (va_Pc [.ref q, .int b] (zPre B0 D A [[(q, .inr (3, [.ref tb, .int (nI t)]))], [(tb, .inl (D.1 100, 16, .inl tf))]])) (zQ (S := Unit) (fun _ => True) (fun _ => none) (fun _ => [[(q, .inr (3, [.ref tb, .int (nI (bgN t))]))], [(tb, .inl (D.1 100, 16, .inl (bgT t tf b)))]]) D A) 0 0 A := by
  refine z_entry (by decide +kernel) (Nat.le_of_ble_eq_true rfl) (fun pX eX sX mX argsX blX mtX cX QX hQX gX hAX hnm => ?_)
  refine z_eq (lv₂ := [(0, .ref q), (1, .int b)]) (st₂ := []) ?_ rfl rfl
  refine z_aload_n (pc := 0) gX 0 dX3_begins_0 rfl rfl ?_
  refine z_get (pc := 1) gX (zI_ok gX hAX) (zm 0 rfl) (ci := 3) (C := RX3) (T := TX3) (N := 2) rfl in_X3 1 (by decide) q200 (fun _ h => h) (v := .int (nI t)) rfl dX3_begins_1 ?_
  refine z_bipush (pc := 4) gX 16 dX3_begins_4 (by decide) ?_
  refine z_icmp_ge (pc := 6) gX 26 dX3_begins_6 (by decide) (fun c6 => ?_) (fun c6 => ?_)
  · skip
    have k6 : 16 ≤ t := (zn_le (a := 16) (b := t) (by omega) (by omega)).mp c6
    exact z_vret gX hQX () trivial rfl (by simp only [bgN, bgT, if_neg (show ¬ t < 16 by omega)]) (by first | decide | omega) (by first | decide | omega) dX3_begins_26
  · skip
    have k6 : t < 16 := (zn_nle (a := 16) (b := t) (by omega) (by omega)).mp c6
    refine z_aload_n (pc := 9) gX 0 dX3_begins_9 rfl rfl ?_
    refine z_get (pc := 10) gX (zI_ok gX hAX) (zm 0 rfl) (ci := 3) (C := RX3) (T := TX3) (N := 2) rfl in_X3 0 (by decide) q198 (fun _ h => h) (v := .ref tb) rfl dX3_begins_10 ?_
    refine z_aload_n (pc := 13) gX 0 dX3_begins_13 rfl rfl ?_
    refine z_dup (pc := 14) gX dX3_begins_14 rfl ?_
    refine z_get (pc := 15) gX (zI_ok gX hAX) (zm 0 rfl) (ci := 3) (C := RX3) (T := TX3) (N := 2) rfl in_X3 1 (by decide) q200 (fun _ h => h) (v := .int (nI t)) rfl dX3_begins_15 ?_
    refine z_dup_x1 (pc := 18) gX dX3_begins_18 rfl rfl ?_
    refine z_iconst (pc := 19) gX 1 dX3_begins_19 (by decide) ?_
    refine z_iadd (pc := 20) gX dX3_begins_20 ?_
    refine z_top (nI (t + 1)) (nI_add t 1) ?_
    refine z_put (pc := 21) gX hAX 0 rfl (ci := 3) (C := RX3) (T := TX3) (N := 2) rfl in_X3 tyX3 tyX3_ok nmX3 1 (by decide) q200 (fun _ h => h) rfl (v := .int (nI (t + 1))) rfl rfl (Nat.le_of_ble_eq_true rfl) [[(q, .inr (3, [.ref tb, .int (nI (t + 1))]))], [(tb, .inl (D.1 100, 16, .inl tf))]] rfl dX3_begins_21 ?_
    refine z_iload_n (pc := 24) gX 1 dX3_begins_24 rfl rfl ?_
    refine z_iast (pc := 25) gX hAX 1 (j := t) (n := 16) (f := tf) rfl (by omega) (by decide) [[(q, .inr (3, [.ref tb, .int (nI (t + 1))]))], [(tb, .inl (D.1 100, 16, .inl (upd tf t b)))]] rfl dX3_begins_25 ?_
    exact z_vret gX hQX () trivial rfl (by simp only [bgN, bgT, if_pos (show t < 16 by omega)]) (by first | decide | omega) (by first | decide | omega) dX3_begins_26
theorem hd_X3_begins : zHd yX3_begins 1 := by unfold zHd; decide +kernel

set_option maxHeartbeats 4000000 in
theorem met_X17_where (l : Launch) (D : va_G) (B0 : Nat) (o : Nat) (ad : Nat → Nat) (sa : Nat → Nat) (sb : Nat → Nat) (tr : Nat) (x : Nat → Int32) (q : Nat) (j : Nat) (c : Nat → Int32) (wn : Int32) (hj : j < 7) : Met l yX17_where (ws_ yX17_where cX17_where 1 (some .int)) (zRm 1 0 0) (va_Pc [.ref q] (zPreO B0 D [[(q, .inr (15, [.int (nI j), .ref o]))], cOb o ad (sa 0) (sb 0) tr x, [(sa 0, .inr (2, [.int (c 16), .int (c 1), .int (c 0), .int wn, .ref (sa 1), .ref (sa 2), .ref (sa 3), .ref (sa 4)]))], [(sa 3, .inl (D.1 100, 7, .inl (fun i_ => c (2 + i_))))]])) (zQo (S := Unit) (fun _ => True) (fun _ => some (.int (c (2 + j))))) 0 0 (fun _ => False) := by
  refine z_entryo (by decide +kernel) (Nat.le_of_ble_eq_true rfl) (fun pX eX sX mX argsX blX mtX cX QX hQX gX => ?_)
  refine z_eq (lv₂ := [(0, .ref q)]) (st₂ := []) ?_ rfl rfl
  refine z_aload_n (pc := 0) gX 0 dX17_where_0 rfl rfl ?_
  refine z_get (pc := 1) gX (zIo_ok gX) (zm 0 rfl) (ci := 15) (C := RX17) (T := TX17) (N := 2) rfl in_X17 1 (by decide) q1267 (fun _ h => h) (v := .ref o) rfl dX17_where_1 ?_
  refine z_getN (pc := 4) gX (zIo_ok gX) (zm 1 rfl) (ci := 0) (C := RX0) (T := TX0) (N := 14) rfl in_X0 4 (by decide) (zm 6 rfl) (fun _ h => h) (v := .ref (sa 0)) rfl dX17_where_4 ?_
  refine z_get (pc := 7) gX (zIo_ok gX) (zm 2 rfl) (ci := 2) (C := RX2) (T := TX2) (N := 8) rfl in_X2 6 (by decide) q168 (fun _ h => h) (v := .ref (sa 3)) rfl dX17_where_7 ?_
  refine z_aload_n (pc := 10) gX 0 dX17_where_10 rfl rfl ?_
  refine z_get (pc := 11) gX (zIo_ok gX) (zm 0 rfl) (ci := 15) (C := RX17) (T := TX17) (N := 2) rfl in_X17 0 (by decide) q1266 (fun _ h => h) (v := .int (nI j)) rfl dX17_where_11 ?_
  refine z_iald (pc := 14) gX (zIo_ok gX) (j := j) (n := 7) (f := (fun i_ => c (2 + i_))) (zm 3 rfl) (by omega) (by decide) dX17_where_14 ?_
  refine z_top (c (2 + j)) rfl ?_
  exact z_rio gX hQX rfl dX17_where_15
theorem hd_X17_where : zHd yX17_where 0 := by unfold zHd; decide +kernel

set_option maxHeartbeats 4000000 in
theorem met_X17_lane (l : Launch) (D : va_G) (B0 : Nat) (o : Nat) (ad : Nat → Nat) (sa : Nat → Nat) (sb : Nat → Nat) (tr : Nat) (x : Nat → Int32) (q : Nat) (j : Nat) (c : Nat → Int32) (wn : Int32) (hj : j < 7) : Met l yX17_lane (ws_ yX17_lane cX17_lane 1 (some .int)) (zRm 1 0 0) (va_Pc [.ref q] (zPreO B0 D [[(q, .inr (15, [.int (nI j), .ref o]))], cOb o ad (sa 0) (sb 0) tr x, [(sa 0, .inr (2, [.int (c 16), .int (c 1), .int (c 0), .int wn, .ref (sa 1), .ref (sa 2), .ref (sa 3), .ref (sa 4)]))], [(sa 2, .inl (D.1 100, 7, .inl (fun i_ => c (9 + i_))))]])) (zQo (S := Unit) (fun _ => True) (fun _ => some (.int (c (9 + j))))) 0 0 (fun _ => False) := by
  refine z_entryo (by decide +kernel) (Nat.le_of_ble_eq_true rfl) (fun pX eX sX mX argsX blX mtX cX QX hQX gX => ?_)
  refine z_eq (lv₂ := [(0, .ref q)]) (st₂ := []) ?_ rfl rfl
  refine z_aload_n (pc := 0) gX 0 dX17_lane_0 rfl rfl ?_
  refine z_get (pc := 1) gX (zIo_ok gX) (zm 0 rfl) (ci := 15) (C := RX17) (T := TX17) (N := 2) rfl in_X17 1 (by decide) q1267 (fun _ h => h) (v := .ref o) rfl dX17_lane_1 ?_
  refine z_getN (pc := 4) gX (zIo_ok gX) (zm 1 rfl) (ci := 0) (C := RX0) (T := TX0) (N := 14) rfl in_X0 4 (by decide) (zm 6 rfl) (fun _ h => h) (v := .ref (sa 0)) rfl dX17_lane_4 ?_
  refine z_get (pc := 7) gX (zIo_ok gX) (zm 2 rfl) (ci := 2) (C := RX2) (T := TX2) (N := 8) rfl in_X2 5 (by decide) q164 (fun _ h => h) (v := .ref (sa 2)) rfl dX17_lane_7 ?_
  refine z_aload_n (pc := 10) gX 0 dX17_lane_10 rfl rfl ?_
  refine z_get (pc := 11) gX (zIo_ok gX) (zm 0 rfl) (ci := 15) (C := RX17) (T := TX17) (N := 2) rfl in_X17 0 (by decide) q1266 (fun _ h => h) (v := .int (nI j)) rfl dX17_lane_11 ?_
  refine z_iald (pc := 14) gX (zIo_ok gX) (j := j) (n := 7) (f := (fun i_ => c (9 + i_))) (zm 3 rfl) (by omega) (by decide) dX17_lane_14 ?_
  refine z_top (c (9 + j)) rfl ?_
  exact z_rio gX hQX rfl dX17_lane_15
theorem hd_X17_lane : zHd yX17_lane 0 := by unfold zHd; decide +kernel

set_option maxHeartbeats 4000000 in
theorem met_X1_init (l : Launch) (D : va_G) (B0 : Nat) (A : Nat → Prop) (q : Nat)  : Met l yX1_init (ws_ yX1_init cX1_init 1 none) (zRm 2 0 0) (va_Pc [.ref q] (zPre B0 D A [[(q, .inr (1, [.null]))]])) (zQ (S := Unit) (fun _ => True) (fun _ => none) (fun _ => [[(q, .inr (1, [.null]))]]) D A) 0 0 A := by
  refine z_entry (by decide +kernel) (Nat.le_of_ble_eq_true rfl) (fun pX eX sX mX argsX blX mtX cX QX hQX gX hAX hnm => ?_)
  refine z_eq (lv₂ := [(0, .ref q)]) (st₂ := []) ?_ rfl rfl
  refine z_aload_n (pc := 0) gX 0 dX1_init_0 rfl rfl ?_
  refine z_objInit (pc := 1) gX q105 q_oi2 q_oi3 dX1_init_1 (Nat.le_of_ble_eq_true rfl) (Nat.le_of_ble_eq_true rfl) ?_
  exact z_vret gX hQX () trivial rfl rfl (by first | decide | omega) (by first | decide | omega) dX1_init_4
theorem hd_X1_init : zHd yX1_init 0 := by unfold zHd; decide +kernel

