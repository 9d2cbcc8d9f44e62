set_option maxRecDepth 100000
/-! THE STAIR of the component: many ticks, becoming another, being made; riders are made -/
theorem tick_0 {n k : Nat} {c : Nat → Int32} (hn : n ≤ 7) : mTick n k c 0 = c 0 + 1 := by
  have h1 : Fr c (mPh2 (mPh1 n k c) n) := (Fr.foldl _ (fun r hr => by have := ordS_lt k r hr; omega) c).tr (Fr.ph2 n hn)
  simp only [mTick]; rw [pk_us, h1 0 (by omega)]
/-- the row of a stair behind a tick -/
theorem pk_tick {st sp tk : Int32} {n k : Nat} {ln wh kd : Nat → Int32} (hn : n ≤ 7) : pkC st sp (tk + 1) n ln (fun q => mTick n k (pkC st sp tk n ln wh kd) (2 + q)) kd = mTick n k (pkC st sp tk n ln wh kd) := by
  funext j
  have hf := FrT.tick (n := n) (k := k) (c := pkC st sp tk n ln wh kd) hn
  by_cases h0 : j = 0
  · rw [h0, tick_0 hn]; rfl
  · by_cases h2 : 2 ≤ j ∧ j < 9
    · simp only [pkC]; rw [if_neg (by omega), if_neg (by omega), if_pos h2.2, show 2 + (j - 2) = j by omega]
    · rw [hf j (by omega)]
      simp only [pkC]
      rw [if_neg h0, if_neg h0]
      by_cases h1 : j = 1
      · rw [if_pos h1, if_pos h1]
      · rw [if_neg h1, if_neg h1, if_neg (show ¬ j < 9 by omega), if_neg (show ¬ j < 9 by omega)]
/-- behind how many ticks all are off; 61: none -/
def clD (n k : Nat) : Nat → Nat → (Nat → Int32) → Nat
  | 0, d, _ => d
  | m + 1, d, c => if cntV c 99 n = n then d else clD n k m (d + 1) (mTick n k c)
theorem clD_s {n k d : Nat} {c : Nat → Int32} (h : d < 61) : clD n k (61 - d) d c = if cntV c 99 n = n then d else clD n k (61 - (d + 1)) (d + 1) (mTick n k c) := by
  rw [show 61 - d = (61 - (d + 1)) + 1 by omega]; rfl
theorem clD_le {n k : Nat} : ∀ (m d : Nat) (c : Nat → Int32), clD n k m d c ≤ d + m
  | 0, d, c => Nat.le_refl _
  | m + 1, d, c => by
    simp only [clD]
    split
    · omega
    · have := clD_le (n := n) (k := k) m (d + 1) (mTick n k c); omega
theorem clD_F {n k : Nat} : ∀ (m d : Nat) (c : Nat → Int32), clF n k m d c = if clD n k m d c = d + m then -1000000 else nI (clD n k m d c)
  | 0, d, c => by simp [clF, clD]
  | m + 1, d, c => by
    simp only [clF, clD]
    split
    · rw [if_neg (by omega)]
    · rw [clD_F m (d + 1) (mTick n k c), show d + 1 + m = d + (m + 1) by omega]
theorem clr_D {n k : Nat} {c : Nat → Int32} : mClr n k c = if clD n k 61 0 c = 61 then -1000000 else nI (clD n k 61 0 c) := by
  simp only [mClr, clD_F]
theorem rF_s (ra : Nat → Nat) (i : Nat) : va_up (rF ra i) i (some (ra i)) = rF ra (i + 1) := by
  funext j
  simp only [va_up, rF]
  by_cases h : j = i
  · rw [if_pos h, if_pos (by omega), h]
  · rw [if_neg h]
    by_cases h2 : j < i
    · rw [if_pos h2, if_pos (by omega)]
    · rw [if_neg h2, if_neg (by omega)]
theorem rF_0 (ra : Nat → Nat) : (fun _ => none) = rF ra 0 := by funext j; simp [rF]
theorem clQ_rF (ra ra1 : Nat → Nat) (n : Nat) : clQ (rF ra n) n = rF ra1 0 := by
  funext j
  simp only [clQ, rF]
  by_cases h : j < n
  · rw [if_pos h, if_neg (by omega)]
  · rw [if_neg h, if_neg h, if_neg (by omega)]
theorem rCl : ∀ k : Nat, 1 ≤ k → k ≤ 5 → ∃ r : vw_C, vwCl[6 + k]? = some r ∧ Cond.castable r.1 "StepRiders$Rider" ∈ lw_tbl := by
  intro k h1 h5
  rcases five h1 h5 with rfl | rfl | rfl | rfl | rfl
  · exact ⟨_, rfl, q1714⟩
  · exact ⟨_, rfl, q1716⟩
  · exact ⟨_, rfl, q1713⟩
  · exact ⟨_, rfl, q1715⟩
  · exact ⟨_, rfl, q1712⟩

set_option maxHeartbeats 4000000 in
theorem met_X2_goOn_2 (l : Launch) (D : va_G) (B0 : Nat) (A : Nat → Prop) (sa : Nat → Nat) (st : Int32) (sp : Int32) (tk : Int32) (wn : Int32) (md : Int32) (d : Nat) (n : Nat) (ln : Nat → Int32) (wh : Nat → Int32) (od : Nat → Int32) (ra : Nat → Nat) (kd : Nat → Int32) (T : va_W) (k : Nat) (m : Nat) (hn7 : n ≤ 7) (hR : rOK T n ra kd) (hl : ∀ q, q < n → ln q = 0 ∨ ln q = 1) (hst : st = nI k) (hk : k ≤ 12) (hm : m ≤ 1000) : Met l yX2_goOn_2 (ws_ yX2_goOn_2 cX2_goOn_2 3 (some (.object "StepRiders$Stair"))) (zRm 10 0 0) (va_Pc [.ref (sa 0), .int (nI m)] (zPre B0 D A [[(sa 0, .inr (2, [.int st, .int sp, .int tk, .int wn, .ref (sa 1), .ref (sa 2), .ref (sa 3), .ref (sa 4)]))], [(sa 1, .inr (16, [.int md, .ref d, .int (nI n)]))], [(sa 2, .inl (D.1 100, 7, .inl ln))], [(sa 3, .inl (D.1 100, 7, .inl wh))], [(sa 4, .inl (D.1 100, 7, .inl od))], [(d, .inl (D.1 104, 10, .inr (.inr (.inr (.inr (rF ra n))))))], T])) (zQ (S := (Nat → Int32) × Int32) (fun u => (fun (od1 : Nat → Int32) (wn1 : Int32) => True) u.1 u.2) (fun u => (fun (od1 : Nat → Int32) (wn1 : Int32) => some (.ref (sa 0))) u.1 u.2) (fun u => (fun (od1 : Nat → Int32) (wn1 : Int32) => [[(sa 0, .inr (2, [.int st, .int sp, .int (itT n k (pkC st sp tk n ln wh kd) m 0), .int wn1, .ref (sa 1), .ref (sa 2), .ref (sa 3), .ref (sa 4)]))], [(sa 1, .inr (16, [.int md, .ref d, .int (nI n)]))], [(sa 2, .inl (D.1 100, 7, .inl ln))], [(sa 3, .inl (D.1 100, 7, .inl (fun q => itT n k (pkC st sp tk n ln wh kd) m (2 + q))))], [(sa 4, .inl (D.1 100, 7, .inl od1))], [(d, .inl (D.1 104, 10, .inr (.inr (.inr (.inr (rF ra n))))))], T]) u.1 u.2) D A) 0 0 A := by
  refine z_entry (by decide +kernel) (Nat.le_of_ble_eq_true rfl) (fun pX eX sX mX argsX blX mtX cX QX hQX gX hAX hnm => ?_)
  refine z_eq (lv₂ := [(0, .ref (sa 0)), (1, .int (nI m))]) (st₂ := []) ?_ rfl rfl
  refine z_iconst (pc := 0) gX 0 dX2_goOn_2_0 (by decide) ?_
  refine z_istore_n (pc := 1) gX [1, 2, 0] [(0, .ref (sa 0)), (1, .int (nI m)), (2, .int 0)] dX2_goOn_2_1 rfl (by decide) rfl ?_
  have L2 : ∀ (n2 : Nat) (i : Nat) (w1 : Nat → Int32) (t1 : Int32) (wn0 : Int32) (od0 : Nat → Int32), (i ≤ m) → (pkC st sp t1 n ln w1 kd = itT n k (pkC st sp tk n ln wh kd) i) → m - i < n2 → zJ pX l eX (zRm 10 0 0) sX mX argsX blX mtX cX QX 3 (zI D A sX [[(sa 0, .inr (2, [.int st, .int sp, .int t1, .int wn0, .ref (sa 1), .ref (sa 2), .ref (sa 3), .ref (sa 4)]))], [(sa 1, .inr (16, [.int md, .ref d, .int (nI n)]))], [(sa 2, .inl (D.1 100, 7, .inl ln))], [(sa 3, .inl (D.1 100, 7, .inl w1))], [(sa 4, .inl (D.1 100, 7, .inl od0))], [(d, .inl (D.1 104, 10, .inr (.inr (.inr (.inr (rF ra n))))))], T]) 0 0 2 [(0, .ref (sa 0)), (1, .int (nI m)), (2, .int (nI i))] [] := by
    intro n2
    induction n2 with
    | zero => exact fun i w1 t1 wn0 od0 hi hp hm2 => absurd hm2 (Nat.not_lt_zero _)
    | succ n2 ih2 =>
      intro i w1 t1 wn0 od0 hi hp hm2
      refine z_iload_n (pc := 2) gX 2 dX2_goOn_2_2 rfl rfl ?_
      refine z_iload_n (pc := 3) gX 1 dX2_goOn_2_3 rfl rfl ?_
      refine z_icmp_ge (pc := 4) gX 18 dX2_goOn_2_4 (by decide) (fun c4 => ?_) (fun c4 => ?_)
      · skip
        have k4 : m ≤ i := (zn_le (a := m) (b := i) (by omega) (by omega)).mp c4
        have ei : i = m := by omega
        rw [ei] at hp
        have hp0 : t1 = itT n k (pkC st sp tk n ln wh kd) m 0 := by rw [← hp]; rfl
        refine z_aload_n (pc := 18) gX 0 dX2_goOn_2_18 rfl rfl ?_
        refine z_ext 3 (fun q => itT n k (pkC st sp tk n ln wh kd) m (2 + q)) rfl (fun q hq => by rw [← hp, pkC_wh hq]) [[(sa 0, .inr (2, [.int st, .int sp, .int t1, .int wn0, .ref (sa 1), .ref (sa 2), .ref (sa 3), .ref (sa 4)]))], [(sa 1, .inr (16, [.int md, .ref d, .int (nI n)]))], [(sa 2, .inl (D.1 100, 7, .inl ln))], [(sa 3, .inl (D.1 100, 7, .inl (fun q => itT n k (pkC st sp tk n ln wh kd) m (2 + q))))], [(sa 4, .inl (D.1 100, 7, .inl od0))], [(d, .inl (D.1 104, 10, .inr (.inr (.inr (.inr (rF ra n))))))], T] rfl ?_
        exact z_aret gX hQX (by first | exact Or.inl ⟨_, rfl⟩ | exact Or.inr ⟨_, rfl⟩) (Or.inr ⟨_, rfl⟩) (od0, wn0) trivial rfl (by rw [hp0]) (by first | decide | omega) (by first | decide | omega) dX2_goOn_2_19
      · skip
        have k4 : i < m := (zn_nle (a := m) (b := i) (by omega) (by omega)).mp c4
        refine z_aload_n (pc := 7) gX 0 dX2_goOn_2_7 rfl rfl ?_
        refine z_cMV (pc := 8) gX hAX [] [] [0, 1, 2, 3, 4, 5, 6] [] (fun A1 => met_X2_goOn l D B0 A1 sa st sp t1 wn0 md d n ln w1 od0 ra kd T k (by first | assumption | omega) (by first | assumption | omega) (by first | assumption | omega) (by first | assumption | omega) (by first | assumption | omega)) q994 q840 q841 q49 q842 (zm 0 rfl) (ci := 2) rfl rfl hd_X2_goOn ⟨rfl, rfl⟩ ⟨(Nat.le_of_ble_eq_true rfl), (Nat.le_of_ble_eq_true rfl)⟩ rfl rfl rfl rfl rfl (Nat.le_of_ble_eq_true rfl) ⟨(Nat.le_of_ble_eq_true rfl), (Nat.le_of_ble_eq_true rfl)⟩ dX2_goOn_2_8 ?_
        intro u8 hu8
        obtain ⟨od1_8, rfl⟩ : ∃ z, z = u8 := ⟨_, rfl⟩
        refine z_re [0, 1, 2, 3, 4, 5, 6] [[(sa 0, .inr (2, [.int st, .int sp, .int (t1 + 1), .int (wn0 + nI (wnP (mPh1 n k (pkC st sp t1 n ln w1 kd)) n)), .ref (sa 1), .ref (sa 2), .ref (sa 3), .ref (sa 4)]))], [(sa 1, .inr (16, [.int md, .ref d, .int (nI n)]))], [(sa 2, .inl (D.1 100, 7, .inl ln))], [(sa 3, .inl (D.1 100, 7, .inl (fun q => mTick n k (pkC st sp t1 n ln w1 kd) (2 + q))))], [(sa 4, .inl (D.1 100, 7, .inl od1_8))], [(d, .inl (D.1 104, 10, .inr (.inr (.inr (.inr (rF ra n))))))], T] rfl rfl ?_
        refine z_eq (lv₂ := [(0, .ref (sa 0)), (1, .int (nI m)), (2, .int (nI i))]) (st₂ := [.ref (sa 0)]) ?_ rfl rfl
        refine z_pop (pc := 11) gX dX2_goOn_2_11 rfl ?_
        refine z_iinc (pc := 12) gX 2 (nI (i + 1)) [1, 2, 0] [(0, .ref (sa 0)), (1, .int (nI m)), (2, .int (nI (i + 1)))] dX2_goOn_2_12 rfl (nI_1 _) (by decide) rfl ?_
        refine z_goto (pc := 15) gX 2 dX2_goOn_2_15 (by decide) ?_
        exact ih2 (i + 1) (fun q => mTick n k (pkC st sp t1 n ln w1 kd) (2 + q)) (t1 + 1) (wn0 + nI (wnP (mPh1 n k (pkC st sp t1 n ln w1 kd)) n)) od1_8 (by omega) (by rw [pk_tick hn7, hp]; rfl) (by omega)
  exact L2 ((m - 0) + 1) 0 wh tk wn od (by omega) rfl (Nat.lt_succ_self _)
theorem hd_X2_goOn_2 : zHd yX2_goOn_2 1 := by unfold zHd; decide +kernel

set_option maxHeartbeats 4000000 in
theorem met_X2_clears (l : Launch) (D : va_G) (B0 : Nat) (A : Nat → Prop) (sa : Nat → Nat) (st : Int32) (sp : Int32) (tk : Int32) (wn : Int32) (md : Int32) (d : Nat) (n : Nat) (ln : Nat → Int32) (wh : Nat → Int32) (od : Nat → Int32) (ra : Nat → Nat) (kd : Nat → Int32) (T : va_W) (k : Nat) (hn7 : n ≤ 7) (hR : rOK T n ra kd) (hl : ∀ q, q < n → ln q = 0 ∨ ln q = 1) (hst : st = nI k) (hk : k ≤ 12) : Met l yX2_clears (ws_ yX2_clears cX2_clears 2 (some .int)) (zRm 10 0 0) (va_Pc [.ref (sa 0)] (zPre B0 D A [[(sa 0, .inr (2, [.int st, .int sp, .int tk, .int wn, .ref (sa 1), .ref (sa 2), .ref (sa 3), .ref (sa 4)]))], [(sa 1, .inr (16, [.int md, .ref d, .int (nI n)]))], [(sa 2, .inl (D.1 100, 7, .inl ln))], [(sa 3, .inl (D.1 100, 7, .inl wh))], [(sa 4, .inl (D.1 100, 7, .inl od))], [(d, .inl (D.1 104, 10, .inr (.inr (.inr (.inr (rF ra n))))))], T])) (zQ (S := (Nat → Int32) × Int32 × (Nat → Int32) × Int32) (fun u => (fun (od1 : Nat → Int32) (wn1 : Int32) (wh1 : Nat → Int32) (tk1 : Int32) => True) u.1 u.2.1 u.2.2.1 u.2.2.2) (fun u => (fun (od1 : Nat → Int32) (wn1 : Int32) (wh1 : Nat → Int32) (tk1 : Int32) => some (.int (nI (clD n k 61 0 (pkC st sp tk n ln wh kd))))) u.1 u.2.1 u.2.2.1 u.2.2.2) (fun u => (fun (od1 : Nat → Int32) (wn1 : Int32) (wh1 : Nat → Int32) (tk1 : Int32) => [[(sa 0, .inr (2, [.int st, .int sp, .int tk1, .int wn1, .ref (sa 1), .ref (sa 2), .ref (sa 3), .ref (sa 4)]))], [(sa 1, .inr (16, [.int md, .ref d, .int (nI n)]))], [(sa 2, .inl (D.1 100, 7, .inl ln))], [(sa 3, .inl (D.1 100, 7, .inl wh1))], [(sa 4, .inl (D.1 100, 7, .inl od1))], [(d, .inl (D.1 104, 10, .inr (.inr (.inr (.inr (rF ra n))))))], T]) u.1 u.2.1 u.2.2.1 u.2.2.2) D A) 0 0 A := by
  refine z_entry (by decide +kernel) (Nat.le_of_ble_eq_true rfl) (fun pX eX sX mX argsX blX mtX cX QX hQX gX hAX hnm => ?_)
  refine z_eq (lv₂ := [(0, .ref (sa 0))]) (st₂ := []) ?_ rfl rfl
  refine z_iconst (pc := 0) gX 0 dX2_clears_0 (by decide) ?_
  refine z_istore_n (pc := 1) gX [1, 0] [(0, .ref (sa 0)), (1, .int 0)] dX2_clears_1 rfl (by decide) rfl ?_
  have L2 : ∀ (n2 : Nat) (i : Nat) (w1 : Nat → Int32) (t1 : Int32) (wn0 : Int32) (od0 : Nat → Int32), (i ≤ 61) → (clD n k (61 - i) i (pkC st sp t1 n ln w1 kd) = clD n k 61 0 (pkC st sp tk n ln wh kd)) → 61 - i < n2 → zJ pX l eX (zRm 10 0 0) sX mX argsX blX mtX cX QX 2 (zI D A sX [[(sa 0, .inr (2, [.int st, .int sp, .int t1, .int wn0, .ref (sa 1), .ref (sa 2), .ref (sa 3), .ref (sa 4)]))], [(sa 1, .inr (16, [.int md, .ref d, .int (nI n)]))], [(sa 2, .inl (D.1 100, 7, .inl ln))], [(sa 3, .inl (D.1 100, 7, .inl w1))], [(sa 4, .inl (D.1 100, 7, .inl od0))], [(d, .inl (D.1 104, 10, .inr (.inr (.inr (.inr (rF ra n))))))], T]) 0 0 2 [(0, .ref (sa 0)), (1, .int (nI i))] [] := by
    intro n2
    induction n2 with
    | zero => exact fun i w1 t1 wn0 od0 hi hp hm2 => absurd hm2 (Nat.not_lt_zero _)
    | succ n2 ih2 =>
      intro i w1 t1 wn0 od0 hi hp hm2
      refine z_iload_n (pc := 2) gX 1 dX2_clears_2 rfl rfl ?_
      refine z_bipush (pc := 3) gX 60 dX2_clears_3 (by decide) ?_
      refine z_icmp_gt (pc := 5) gX 30 dX2_clears_5 (by decide) (fun c5 => ?_) (fun c5 => ?_)
      · skip
        have k5 : 60 < i := (zn_lt (a := 60) (b := i) (by omega) (by omega)).mp c5
        refine z_iload_n (pc := 30) gX 1 dX2_clears_30 rfl rfl ?_
        exact z_rim gX hQX (od0, wn0, w1, t1) trivial (zsv (by rw [← hp, show i = 61 by omega]; rfl)) rfl (by first | decide | omega) (by first | decide | omega) dX2_clears_31
      · skip
        have k5 : i ≤ 60 := (zn_nlt (a := 60) (b := i) (by omega) (by omega)).mp c5
        refine z_aload_n (pc := 8) gX 0 dX2_clears_8 rfl rfl ?_
        refine z_cOV (pc := 9) gX (zI_ok gX hAX) [] [] [0, 1, 3] (met_X2_offs l D B0 sa st sp t1 wn0 md d n w1 (by first | assumption | omega)) q1012 q926 q927 q49 q928 (zm 0 rfl) (ci := 2) rfl rfl hd_X2_offs ⟨rfl, rfl⟩ ⟨(Nat.le_of_ble_eq_true rfl), (Nat.le_of_ble_eq_true rfl)⟩ rfl rfl rfl (Nat.le_of_ble_eq_true rfl) ⟨(Nat.le_of_ble_eq_true rfl), (Nat.le_of_ble_eq_true rfl)⟩ dX2_clears_9 ?_
        intro _ hu9
        refine z_eq (lv₂ := [(0, .ref (sa 0)), (1, .int (nI i))]) (st₂ := [.int (nI (cW w1 99 n))]) ?_ rfl rfl
        refine z_aload_n (pc := 12) gX 0 dX2_clears_12 rfl rfl ?_
        refine z_cOV (pc := 13) gX (zI_ok gX hAX) [] [.int (nI (cW w1 99 n))] [0, 1] (met_X2_many l D B0 sa st sp t1 wn0 md d n ) q847 q653 q654 q49 q655 (zm 0 rfl) (ci := 2) rfl rfl hd_X2_many ⟨rfl, rfl⟩ ⟨(Nat.le_of_ble_eq_true rfl), (Nat.le_of_ble_eq_true rfl)⟩ rfl rfl rfl (Nat.le_of_ble_eq_true rfl) ⟨(Nat.le_of_ble_eq_true rfl), (Nat.le_of_ble_eq_true rfl)⟩ dX2_clears_13 ?_
        intro _ hu13
        refine z_eq (lv₂ := [(0, .ref (sa 0)), (1, .int (nI i))]) (st₂ := [.int (nI n), .int (nI (cW w1 99 n))]) ?_ rfl rfl
        have hcw := cW_le w1 99 n
        refine z_icmp_ge (pc := 16) gX 30 dX2_clears_16 (by decide) (fun c16 => ?_) (fun c16 => ?_)
        · skip
          have k16 : n ≤ cW w1 99 n := (zn_le (a := n) (b := cW w1 99 n) (by omega) (by omega)).mp c16
          refine z_iload_n (pc := 30) gX 1 dX2_clears_30 rfl rfl ?_
          exact z_rim gX hQX (od0, wn0, w1, t1) trivial (zsv (by rw [← hp, clD_s (by omega), if_pos (by rw [cW_pk (st := st) (sp := sp) (tk := t1) (m := n) (ln := ln) (wh := w1) (kd := kd) (v := 99) n hn7]; have := cW_le w1 99 n; omega)])) rfl (by first | decide | omega) (by first | decide | omega) dX2_clears_31
        · skip
          have k16 : cW w1 99 n < n := (zn_nle (a := n) (b := cW w1 99 n) (by omega) (by omega)).mp c16
          refine z_aload_n (pc := 19) gX 0 dX2_clears_19 rfl rfl ?_
          refine z_cMV (pc := 20) gX hAX [] [] [0, 1, 2, 3, 4, 5, 6] [] (fun A1 => met_X2_goOn l D B0 A1 sa st sp t1 wn0 md d n ln w1 od0 ra kd T k (by first | assumption | omega) (by first | assumption | omega) (by first | assumption | omega) (by first | assumption | omega) (by first | assumption | omega)) q994 q840 q841 q49 q842 (zm 0 rfl) (ci := 2) rfl rfl hd_X2_goOn ⟨rfl, rfl⟩ ⟨(Nat.le_of_ble_eq_true rfl), (Nat.le_of_ble_eq_true rfl)⟩ rfl rfl rfl rfl rfl (Nat.le_of_ble_eq_true rfl) ⟨(Nat.le_of_ble_eq_true rfl), (Nat.le_of_ble_eq_true rfl)⟩ dX2_clears_20 ?_
          intro u20 hu20
          obtain ⟨od1_20, rfl⟩ : ∃ z, z = u20 := ⟨_, rfl⟩
          refine z_re [0, 1, 2, 3, 4, 5, 6] [[(sa 0, .inr (2, [.int st, .int sp, .int (t1 + 1), .int (wn0 + nI (wnP (mPh1 n k (pkC st sp t1 n ln w1 kd)) n)), .ref (sa 1), .ref (sa 2), .ref (sa 3), .ref (sa 4)]))], [(sa 1, .inr (16, [.int md, .ref d, .int (nI n)]))], [(sa 2, .inl (D.1 100, 7, .inl ln))], [(sa 3, .inl (D.1 100, 7, .inl (fun q => mTick n k (pkC st sp t1 n ln w1 kd) (2 + q))))], [(sa 4, .inl (D.1 100, 7, .inl od1_20))], [(d, .inl (D.1 104, 10, .inr (.inr (.inr (.inr (rF ra n))))))], T] rfl rfl ?_
          refine z_eq (lv₂ := [(0, .ref (sa 0)), (1, .int (nI i))]) (st₂ := [.ref (sa 0)]) ?_ rfl rfl
          refine z_pop (pc := 23) gX dX2_clears_23 rfl ?_
          refine z_iinc (pc := 24) gX 1 (nI (i + 1)) [1, 0] [(0, .ref (sa 0)), (1, .int (nI (i + 1)))] dX2_clears_24 rfl (nI_1 _) (by decide) rfl ?_
          refine z_goto (pc := 27) gX 2 dX2_clears_27 (by decide) ?_
          exact ih2 (i + 1) (fun q => mTick n k (pkC st sp t1 n ln w1 kd) (2 + q)) (t1 + 1) (wn0 + nI (wnP (mPh1 n k (pkC st sp t1 n ln w1 kd)) n)) od1_20 (by omega) (by rw [pk_tick hn7]; rw [clD_s (by omega), if_neg (by rw [cW_pk (st := st) (sp := sp) (tk := t1) (m := n) (ln := ln) (wh := w1) (kd := kd) (v := 99) n hn7]; omega)] at hp; exact hp) (by omega)
  exact L2 ((61 - 0) + 1) 0 wh tk wn od (by omega) rfl (Nat.lt_succ_self _)
theorem hd_X2_clears : zHd yX2_clears 0 := by unfold zHd; decide +kernel

set_option maxHeartbeats 4000000 in
theorem met_X2_becomeG (l : Launch) (D : va_G) (B0 : Nat) (A : Nat → Prop) (sa : Nat → Nat) (st : Int32) (sp : Int32) (tk : Int32) (wn : Int32) (md : Int32) (d : Nat) (n : Nat) (ln : Nat → Int32) (wh : Nat → Int32) (od : Nat → Int32) (ra : Nat → Nat) (kd : Nat → Int32) (T : va_W) (zsa : Nat → Nat) (zst : Int32) (zsp : Int32) (ztk : Int32) (zwn : Int32) (zmd : Int32) (zln : Nat → Int32) (zwh : Nat → Int32) (zod : Nat → Int32) (zd : Nat) (zn : Nat) (zra : Nat → Nat) (hn7 : n ≤ 7) (hR : rOK T n ra kd) (hz7 : zn ≤ 7) : Met l yX2_become (ws_ yX2_become cX2_become 3 (some (.object "StepRiders$Stair"))) (zRm 6 0 0) (va_Pc [.ref (zsa 0), .ref (sa 0)] (zPre B0 D A [[(zsa 0, .inr (2, [.int zst, .int zsp, .int ztk, .int zwn, .ref (zsa 1), .ref (zsa 2), .ref (zsa 3), .ref (zsa 4)]))], [(zsa 1, .inr (16, [.int zmd, .ref zd, .int (nI zn)]))], [(zsa 2, .inl (D.1 100, 7, .inl zln))], [(zsa 3, .inl (D.1 100, 7, .inl zwh))], [(zsa 4, .inl (D.1 100, 7, .inl zod))], [(zd, .inl (D.1 104, 10, .inr (.inr (.inr (.inr (rF zra zn))))))], [(sa 0, .inr (2, [.int st, .int sp, .int tk, .int wn, .ref (sa 1), .ref (sa 2), .ref (sa 3), .ref (sa 4)]))], [(sa 1, .inr (16, [.int md, .ref d, .int (nI n)]))], [(sa 2, .inl (D.1 100, 7, .inl ln))], [(sa 3, .inl (D.1 100, 7, .inl wh))], [(sa 4, .inl (D.1 100, 7, .inl od))], [(d, .inl (D.1 104, 10, .inr (.inr (.inr (.inr (rF ra n))))))], T])) (zQ (S := Int32) (fun u => (fun (md1 : Int32) => True) u) (fun u => (fun (md1 : Int32) => some (.ref (zsa 0))) u) (fun u => (fun (md1 : Int32) => [[(zsa 0, .inr (2, [.int st, .int sp, .int tk, .int wn, .ref (zsa 1), .ref (zsa 2), .ref (zsa 3), .ref (zsa 4)]))], [(zsa 1, .inr (16, [.int md1, .ref zd, .int (nI n)]))], [(zsa 2, .inl (D.1 100, 7, .inl ln))], [(zsa 3, .inl (D.1 100, 7, .inl wh))], [(zsa 4, .inl (D.1 100, 7, .inl zod))], [(zd, .inl (D.1 104, 10, .inr (.inr (.inr (.inr (rF ra n))))))], [(sa 0, .inr (2, [.int st, .int sp, .int tk, .int wn, .ref (sa 1), .ref (sa 2), .ref (sa 3), .ref (sa 4)]))], [(sa 1, .inr (16, [.int md, .ref d, .int (nI n)]))], [(sa 2, .inl (D.1 100, 7, .inl ln))], [(sa 3, .inl (D.1 100, 7, .inl wh))], [(sa 4, .inl (D.1 100, 7, .inl od))], [(d, .inl (D.1 104, 10, .inr (.inr (.inr (.inr (rF ra n))))))], T]) u) D A) 0 0 A := by
  refine z_entry (by decide +kernel) (Nat.le_of_ble_eq_true rfl) (fun pX eX sX mX argsX blX mtX cX QX hQX gX hAX hnm => ?_)
  refine z_eq (lv₂ := [(0, .ref (zsa 0)), (1, .ref (sa 0))]) (st₂ := []) ?_ rfl rfl
  refine z_aload_n (pc := 0) gX 0 dX2_become_0 rfl rfl ?_
  refine z_aload_n (pc := 1) gX 1 dX2_become_1 rfl rfl ?_
  refine z_get (pc := 2) gX (zI_ok gX hAX) (zm 6 rfl) (ci := 2) (C := RX2) (T := TX2) (N := 8) rfl in_X2 0 (by decide) q144 (fun _ h => h) (v := .int st) rfl dX2_become_2 ?_
  refine z_put (pc := 5) gX hAX 0 rfl (ci := 2) (C := RX2) (T := TX2) (N := 8) rfl in_X2 tyX2 tyX2_ok nmX2 0 (by decide) q144 (fun _ h => h) rfl (v := .int st) rfl rfl (Nat.le_of_ble_eq_true rfl) [[(zsa 0, .inr (2, [.int st, .int zsp, .int ztk, .int zwn, .ref (zsa 1), .ref (zsa 2), .ref (zsa 3), .ref (zsa 4)]))], [(zsa 1, .inr (16, [.int zmd, .ref zd, .int (nI zn)]))], [(zsa 2, .inl (D.1 100, 7, .inl zln))], [(zsa 3, .inl (D.1 100, 7, .inl zwh))], [(zsa 4, .inl (D.1 100, 7, .inl zod))], [(zd, .inl (D.1 104, 10, .inr (.inr (.inr (.inr (rF zra zn))))))], [(sa 0, .inr (2, [.int st, .int sp, .int tk, .int wn, .ref (sa 1), .ref (sa 2), .ref (sa 3), .ref (sa 4)]))], [(sa 1, .inr (16, [.int md, .ref d, .int (nI n)]))], [(sa 2, .inl (D.1 100, 7, .inl ln))], [(sa 3, .inl (D.1 100, 7, .inl wh))], [(sa 4, .inl (D.1 100, 7, .inl od))], [(d, .inl (D.1 104, 10, .inr (.inr (.inr (.inr (rF ra n))))))], T] rfl dX2_become_5 ?_
  refine z_aload_n (pc := 8) gX 0 dX2_become_8 rfl rfl ?_
  refine z_aload_n (pc := 9) gX 1 dX2_become_9 rfl rfl ?_
  refine z_get (pc := 10) gX (zI_ok gX hAX) (zm 6 rfl) (ci := 2) (C := RX2) (T := TX2) (N := 8) rfl in_X2 1 (by decide) q149 (fun _ h => h) (v := .int sp) rfl dX2_become_10 ?_
  refine z_put (pc := 13) gX hAX 0 rfl (ci := 2) (C := RX2) (T := TX2) (N := 8) rfl in_X2 tyX2 tyX2_ok nmX2 1 (by decide) q149 (fun _ h => h) rfl (v := .int sp) rfl rfl (Nat.le_of_ble_eq_true rfl) [[(zsa 0, .inr (2, [.int st, .int sp, .int ztk, .int zwn, .ref (zsa 1), .ref (zsa 2), .ref (zsa 3), .ref (zsa 4)]))], [(zsa 1, .inr (16, [.int zmd, .ref zd, .int (nI zn)]))], [(zsa 2, .inl (D.1 100, 7, .inl zln))], [(zsa 3, .inl (D.1 100, 7, .inl zwh))], [(zsa 4, .inl (D.1 100, 7, .inl zod))], [(zd, .inl (D.1 104, 10, .inr (.inr (.inr (.inr (rF zra zn))))))], [(sa 0, .inr (2, [.int st, .int sp, .int tk, .int wn, .ref (sa 1), .ref (sa 2), .ref (sa 3), .ref (sa 4)]))], [(sa 1, .inr (16, [.int md, .ref d, .int (nI n)]))], [(sa 2, .inl (D.1 100, 7, .inl ln))], [(sa 3, .inl (D.1 100, 7, .inl wh))], [(sa 4, .inl (D.1 100, 7, .inl od))], [(d, .inl (D.1 104, 10, .inr (.inr (.inr (.inr (rF ra n))))))], T] rfl dX2_become_13 ?_
  refine z_aload_n (pc := 16) gX 0 dX2_become_16 rfl rfl ?_
  refine z_aload_n (pc := 17) gX 1 dX2_become_17 rfl rfl ?_
  refine z_get (pc := 18) gX (zI_ok gX hAX) (zm 6 rfl) (ci := 2) (C := RX2) (T := TX2) (N := 8) rfl in_X2 2 (by decide) q152 (fun _ h => h) (v := .int tk) rfl dX2_become_18 ?_
  refine z_put (pc := 21) gX hAX 0 rfl (ci := 2) (C := RX2) (T := TX2) (N := 8) rfl in_X2 tyX2 tyX2_ok nmX2 2 (by decide) q152 (fun _ h => h) rfl (v := .int tk) rfl rfl (Nat.le_of_ble_eq_true rfl) [[(zsa 0, .inr (2, [.int st, .int sp, .int tk, .int zwn, .ref (zsa 1), .ref (zsa 2), .ref (zsa 3), .ref (zsa 4)]))], [(zsa 1, .inr (16, [.int zmd, .ref zd, .int (nI zn)]))], [(zsa 2, .inl (D.1 100, 7, .inl zln))], [(zsa 3, .inl (D.1 100, 7, .inl zwh))], [(zsa 4, .inl (D.1 100, 7, .inl zod))], [(zd, .inl (D.1 104, 10, .inr (.inr (.inr (.inr (rF zra zn))))))], [(sa 0, .inr (2, [.int st, .int sp, .int tk, .int wn, .ref (sa 1), .ref (sa 2), .ref (sa 3), .ref (sa 4)]))], [(sa 1, .inr (16, [.int md, .ref d, .int (nI n)]))], [(sa 2, .inl (D.1 100, 7, .inl ln))], [(sa 3, .inl (D.1 100, 7, .inl wh))], [(sa 4, .inl (D.1 100, 7, .inl od))], [(d, .inl (D.1 104, 10, .inr (.inr (.inr (.inr (rF ra n))))))], T] rfl dX2_become_21 ?_
  refine z_aload_n (pc := 24) gX 0 dX2_become_24 rfl rfl ?_
  refine z_aload_n (pc := 25) gX 1 dX2_become_25 rfl rfl ?_
  refine z_get (pc := 26) gX (zI_ok gX hAX) (zm 6 rfl) (ci := 2) (C := RX2) (T := TX2) (N := 8) rfl in_X2 3 (by decide) q155 (fun _ h => h) (v := .int wn) rfl dX2_become_26 ?_
  refine z_put (pc := 29) gX hAX 0 rfl (ci := 2) (C := RX2) (T := TX2) (N := 8) rfl in_X2 tyX2 tyX2_ok nmX2 3 (by decide) q155 (fun _ h => h) rfl (v := .int wn) rfl rfl (Nat.le_of_ble_eq_true rfl) [[(zsa 0, .inr (2, [.int st, .int sp, .int tk, .int wn, .ref (zsa 1), .ref (zsa 2), .ref (zsa 3), .ref (zsa 4)]))], [(zsa 1, .inr (16, [.int zmd, .ref zd, .int (nI zn)]))], [(zsa 2, .inl (D.1 100, 7, .inl zln))], [(zsa 3, .inl (D.1 100, 7, .inl zwh))], [(zsa 4, .inl (D.1 100, 7, .inl zod))], [(zd, .inl (D.1 104, 10, .inr (.inr (.inr (.inr (rF zra zn))))))], [(sa 0, .inr (2, [.int st, .int sp, .int tk, .int wn, .ref (sa 1), .ref (sa 2), .ref (sa 3), .ref (sa 4)]))], [(sa 1, .inr (16, [.int md, .ref d, .int (nI n)]))], [(sa 2, .inl (D.1 100, 7, .inl ln))], [(sa 3, .inl (D.1 100, 7, .inl wh))], [(sa 4, .inl (D.1 100, 7, .inl od))], [(d, .inl (D.1 104, 10, .inr (.inr (.inr (.inr (rF ra n))))))], T] rfl dX2_become_29 ?_
  refine z_aload_n (pc := 32) gX 1 dX2_become_32 rfl rfl ?_
  refine z_get (pc := 33) gX (zI_ok gX hAX) (zm 6 rfl) (ci := 2) (C := RX2) (T := TX2) (N := 8) rfl in_X2 5 (by decide) q161 (fun _ h => h) (v := .ref (sa 2)) rfl dX2_become_33 ?_
  refine z_iconst (pc := 36) gX 0 dX2_become_36 (by decide) ?_
  refine z_aload_n (pc := 37) gX 0 dX2_become_37 rfl rfl ?_
  refine z_get (pc := 38) gX (zI_ok gX hAX) (zm 0 rfl) (ci := 2) (C := RX2) (T := TX2) (N := 8) rfl in_X2 5 (by decide) q161 (fun _ h => h) (v := .ref (zsa 2)) rfl dX2_become_38 ?_
  refine z_iconst (pc := 41) gX 0 dX2_become_41 (by decide) ?_
  refine z_bipush (pc := 42) gX 7 dX2_become_42 (by decide) ?_
  refine z_eq (lv₂ := [(0, .ref (zsa 0)), (1, .ref (sa 0))]) (st₂ := .int (nI 7) :: .int (nI 0) :: .ref (zsa 2) :: .int (nI 0) :: .ref (sa 2) :: []) ?_ rfl rfl
  refine z_copyi (pc := 44) gX hAX ⟨q788, q444, q443, q64⟩ 8 2 0 rfl rfl rfl rfl (by omega) (by omega) (by omega) (fun _ _ => rfl) (Nat.le_of_ble_eq_true rfl) (Nat.le_of_ble_eq_true rfl) [[(zsa 0, .inr (2, [.int st, .int sp, .int tk, .int wn, .ref (zsa 1), .ref (zsa 2), .ref (zsa 3), .ref (zsa 4)]))], [(zsa 1, .inr (16, [.int zmd, .ref zd, .int (nI zn)]))], [(zsa 2, .inl (D.1 100, 7, .inl (va_cpy ln zln 0 0 7)))], [(zsa 3, .inl (D.1 100, 7, .inl zwh))], [(zsa 4, .inl (D.1 100, 7, .inl zod))], [(zd, .inl (D.1 104, 10, .inr (.inr (.inr (.inr (rF zra zn))))))], [(sa 0, .inr (2, [.int st, .int sp, .int tk, .int wn, .ref (sa 1), .ref (sa 2), .ref (sa 3), .ref (sa 4)]))], [(sa 1, .inr (16, [.int md, .ref d, .int (nI n)]))], [(sa 2, .inl (D.1 100, 7, .inl ln))], [(sa 3, .inl (D.1 100, 7, .inl wh))], [(sa 4, .inl (D.1 100, 7, .inl od))], [(d, .inl (D.1 104, 10, .inr (.inr (.inr (.inr (rF ra n))))))], T] rfl dX2_become_44 ?_
  refine z_ext 2 ln rfl (fun q hq => sb_cpy0 hq) [[(zsa 0, .inr (2, [.int st, .int sp, .int tk, .int wn, .ref (zsa 1), .ref (zsa 2), .ref (zsa 3), .ref (zsa 4)]))], [(zsa 1, .inr (16, [.int zmd, .ref zd, .int (nI zn)]))], [(zsa 2, .inl (D.1 100, 7, .inl ln))], [(zsa 3, .inl (D.1 100, 7, .inl zwh))], [(zsa 4, .inl (D.1 100, 7, .inl zod))], [(zd, .inl (D.1 104, 10, .inr (.inr (.inr (.inr (rF zra zn))))))], [(sa 0, .inr (2, [.int st, .int sp, .int tk, .int wn, .ref (sa 1), .ref (sa 2), .ref (sa 3), .ref (sa 4)]))], [(sa 1, .inr (16, [.int md, .ref d, .int (nI n)]))], [(sa 2, .inl (D.1 100, 7, .inl ln))], [(sa 3, .inl (D.1 100, 7, .inl wh))], [(sa 4, .inl (D.1 100, 7, .inl od))], [(d, .inl (D.1 104, 10, .inr (.inr (.inr (.inr (rF ra n))))))], T] rfl ?_
  refine z_aload_n (pc := 47) gX 1 dX2_become_47 rfl rfl ?_
  refine z_get (pc := 48) gX (zI_ok gX hAX) (zm 6 rfl) (ci := 2) (C := RX2) (T := TX2) (N := 8) rfl in_X2 6 (by decide) q167 (fun _ h => h) (v := .ref (sa 3)) rfl dX2_become_48 ?_
  refine z_iconst (pc := 51) gX 0 dX2_become_51 (by decide) ?_
  refine z_aload_n (pc := 52) gX 0 dX2_become_52 rfl rfl ?_
  refine z_get (pc := 53) gX (zI_ok gX hAX) (zm 0 rfl) (ci := 2) (C := RX2) (T := TX2) (N := 8) rfl in_X2 6 (by decide) q167 (fun _ h => h) (v := .ref (zsa 3)) rfl dX2_become_53 ?_
  refine z_iconst (pc := 56) gX 0 dX2_become_56 (by decide) ?_
  refine z_bipush (pc := 57) gX 7 dX2_become_57 (by decide) ?_
  refine z_eq (lv₂ := [(0, .ref (zsa 0)), (1, .ref (sa 0))]) (st₂ := .int (nI 7) :: .int (nI 0) :: .ref (zsa 3) :: .int (nI 0) :: .ref (sa 3) :: []) ?_ rfl rfl
  refine z_copyi (pc := 59) gX hAX ⟨q788, q444, q443, q64⟩ 9 3 0 rfl rfl rfl rfl (by omega) (by omega) (by omega) (fun _ _ => rfl) (Nat.le_of_ble_eq_true rfl) (Nat.le_of_ble_eq_true rfl) [[(zsa 0, .inr (2, [.int st, .int sp, .int tk, .int wn, .ref (zsa 1), .ref (zsa 2), .ref (zsa 3), .ref (zsa 4)]))], [(zsa 1, .inr (16, [.int zmd, .ref zd, .int (nI zn)]))], [(zsa 2, .inl (D.1 100, 7, .inl ln))], [(zsa 3, .inl (D.1 100, 7, .inl (va_cpy wh zwh 0 0 7)))], [(zsa 4, .inl (D.1 100, 7, .inl zod))], [(zd, .inl (D.1 104, 10, .inr (.inr (.inr (.inr (rF zra zn))))))], [(sa 0, .inr (2, [.int st, .int sp, .int tk, .int wn, .ref (sa 1), .ref (sa 2), .ref (sa 3), .ref (sa 4)]))], [(sa 1, .inr (16, [.int md, .ref d, .int (nI n)]))], [(sa 2, .inl (D.1 100, 7, .inl ln))], [(sa 3, .inl (D.1 100, 7, .inl wh))], [(sa 4, .inl (D.1 100, 7, .inl od))], [(d, .inl (D.1 104, 10, .inr (.inr (.inr (.inr (rF ra n))))))], T] rfl dX2_become_59 ?_
  refine z_ext 3 wh rfl (fun q hq => sb_cpy0 hq) [[(zsa 0, .inr (2, [.int st, .int sp, .int tk, .int wn, .ref (zsa 1), .ref (zsa 2), .ref (zsa 3), .ref (zsa 4)]))], [(zsa 1, .inr (16, [.int zmd, .ref zd, .int (nI zn)]))], [(zsa 2, .inl (D.1 100, 7, .inl ln))], [(zsa 3, .inl (D.1 100, 7, .inl wh))], [(zsa 4, .inl (D.1 100, 7, .inl zod))], [(zd, .inl (D.1 104, 10, .inr (.inr (.inr (.inr (rF zra zn))))))], [(sa 0, .inr (2, [.int st, .int sp, .int tk, .int wn, .ref (sa 1), .ref (sa 2), .ref (sa 3), .ref (sa 4)]))], [(sa 1, .inr (16, [.int md, .ref d, .int (nI n)]))], [(sa 2, .inl (D.1 100, 7, .inl ln))], [(sa 3, .inl (D.1 100, 7, .inl wh))], [(sa 4, .inl (D.1 100, 7, .inl od))], [(d, .inl (D.1 104, 10, .inr (.inr (.inr (.inr (rF ra n))))))], T] rfl ?_
  refine z_aload_n (pc := 62) gX 0 dX2_become_62 rfl rfl ?_
  refine z_get (pc := 63) gX (zI_ok gX hAX) (zm 0 rfl) (ci := 2) (C := RX2) (T := TX2) (N := 8) rfl in_X2 4 (by decide) q157 (fun _ h => h) (v := .ref (zsa 1)) rfl dX2_become_63 ?_
  refine z_cMF (n := 0) (pc := 66) gX hAX [] [] [1, 5] [0, 2, 3, 4, 6, 7, 8, 9, 10, 11, 12] (fun A1 => met_J2_clearg l D B0 A1 (zsa 1) zmd zd zn (rF zra zn) (by first | assumption | omega)) q790 q795 q793 q52 (gX.zk.face ⟨by decide +kernel, by decide +kernel⟩ q792 q791 q796 q794 q660) (by unfold zHd; decide +kernel) q797 (zm 1 rfl) (ci := 16) rfl ⟨rfl, rfl⟩ ⟨(Nat.le_of_ble_eq_true rfl), (Nat.le_of_ble_eq_true rfl)⟩ rfl rfl (zpl 13 rfl (by decide +kernel)) rfl rfl (Nat.le_of_ble_eq_true rfl) ⟨(Nat.le_of_ble_eq_true rfl), (Nat.le_of_ble_eq_true rfl)⟩ dX2_become_66 ?_
  intro _ hu66
  refine z_re [2, 0, 3, 4, 5, 1, 6, 7, 8, 9, 10, 11, 12] [[(zsa 0, .inr (2, [.int st, .int sp, .int tk, .int wn, .ref (zsa 1), .ref (zsa 2), .ref (zsa 3), .ref (zsa 4)]))], [(zsa 1, .inr (16, [.int (zmd + 1), .ref zd, .int (nI 0)]))], [(zsa 2, .inl (D.1 100, 7, .inl ln))], [(zsa 3, .inl (D.1 100, 7, .inl wh))], [(zsa 4, .inl (D.1 100, 7, .inl zod))], [(zd, .inl (D.1 104, 10, .inr (.inr (.inr (.inr (clQ (rF zra zn) zn))))))], [(sa 0, .inr (2, [.int st, .int sp, .int tk, .int wn, .ref (sa 1), .ref (sa 2), .ref (sa 3), .ref (sa 4)]))], [(sa 1, .inr (16, [.int md, .ref d, .int (nI n)]))], [(sa 2, .inl (D.1 100, 7, .inl ln))], [(sa 3, .inl (D.1 100, 7, .inl wh))], [(sa 4, .inl (D.1 100, 7, .inl od))], [(d, .inl (D.1 104, 10, .inr (.inr (.inr (.inr (rF ra n))))))], T] rfl (zpl 13 rfl (by decide +kernel)) ?_
  refine z_eq (lv₂ := [(0, .ref (zsa 0)), (1, .ref (sa 0))]) (st₂ := []) ?_ rfl rfl
  refine z_iconst (pc := 71) gX 0 dX2_become_71 (by decide) ?_
  refine z_istore_n (pc := 72) gX [1, 2, 0] [(0, .ref (zsa 0)), (1, .ref (sa 0)), (2, .int 0)] dX2_become_72 rfl (by decide) rfl ?_
  have L73 : ∀ (n73 : Nat) (i : Nat) (f1 : Nat → Option Nat) (m1 : Int32) (i1 : Nat), (i ≤ n) → (i1 = i) → (f1 = rF ra i) → n - i < n73 → zJ pX l eX (zRm 6 0 0) sX mX argsX blX mtX cX QX 3 (zI D A sX [[(zsa 0, .inr (2, [.int st, .int sp, .int tk, .int wn, .ref (zsa 1), .ref (zsa 2), .ref (zsa 3), .ref (zsa 4)]))], [(zsa 1, .inr (16, [.int m1, .ref zd, .int (nI i1)]))], [(zsa 2, .inl (D.1 100, 7, .inl ln))], [(zsa 3, .inl (D.1 100, 7, .inl wh))], [(zsa 4, .inl (D.1 100, 7, .inl zod))], [(zd, .inl (D.1 104, 10, .inr (.inr (.inr (.inr f1)))))], [(sa 0, .inr (2, [.int st, .int sp, .int tk, .int wn, .ref (sa 1), .ref (sa 2), .ref (sa 3), .ref (sa 4)]))], [(sa 1, .inr (16, [.int md, .ref d, .int (nI n)]))], [(sa 2, .inl (D.1 100, 7, .inl ln))], [(sa 3, .inl (D.1 100, 7, .inl wh))], [(sa 4, .inl (D.1 100, 7, .inl od))], [(d, .inl (D.1 104, 10, .inr (.inr (.inr (.inr (rF ra n))))))], T]) 0 0 73 [(0, .ref (zsa 0)), (1, .ref (sa 0)), (2, .int (nI i))] [] := by
    intro n73
    induction n73 with
    | zero => exact fun i f1 m1 i1 hi hii hf hm73 => absurd hm73 (Nat.not_lt_zero _)
    | succ n73 ih73 =>
      intro i f1 m1 i1 hi hii hf hm73
      refine z_iload_n (pc := 73) gX 2 dX2_become_73 rfl rfl ?_
      refine z_aload_n (pc := 74) gX 1 dX2_become_74 rfl rfl ?_
      refine z_get (pc := 75) gX (zI_ok gX hAX) (zm 6 rfl) (ci := 2) (C := RX2) (T := TX2) (N := 8) rfl in_X2 4 (by decide) q157 (fun _ h => h) (v := .ref (sa 1)) rfl dX2_become_75 ?_
      refine z_cOF (n := 0) (pc := 78) gX (zI_ok gX hAX) [] [.int (nI i)] [7] (met_J2_size l D B0 (sa 1) md d n ) q657 q663 q661 q52 (gX.zk.face ⟨by decide +kernel, by decide +kernel⟩ q659 q658 q664 q662 q660) (by unfold zHd; decide +kernel) q665 (zm 7 rfl) (ci := 16) rfl ⟨rfl, rfl⟩ ⟨(Nat.le_of_ble_eq_true rfl), (Nat.le_of_ble_eq_true rfl)⟩ rfl rfl rfl (Nat.le_of_ble_eq_true rfl) ⟨(Nat.le_of_ble_eq_true rfl), (Nat.le_of_ble_eq_true rfl)⟩ dX2_become_78 ?_
      intro _ hu78
      refine z_eq (lv₂ := [(0, .ref (zsa 0)), (1, .ref (sa 0)), (2, .int (nI i))]) (st₂ := [.int (nI n), .int (nI i)]) ?_ rfl rfl
      refine z_icmp_ge (pc := 83) gX 115 dX2_become_83 (by decide) (fun c83 => ?_) (fun c83 => ?_)
      · skip
        have k83 : n ≤ i := (zn_le (a := n) (b := i) (by omega) (by omega)).mp c83
        refine z_aload_n (pc := 115) gX 0 dX2_become_115 rfl rfl ?_
        exact z_aret gX hQX (by first | exact Or.inl ⟨_, rfl⟩ | exact Or.inr ⟨_, rfl⟩) (Or.inr ⟨_, rfl⟩) m1 trivial rfl (by rw [hf, hii, show i = n by omega]) (by first | decide | omega) (by first | decide | omega) dX2_become_116
      · skip
        have k83 : i < n := (zn_nle (a := n) (b := i) (by omega) (by omega)).mp c83
        obtain ⟨kk, hk1, hk5, hkd, hv⟩ := hR i (by omega)
        obtain ⟨rr, hc, hcr⟩ := rCl kk hk1 hk5
        refine z_aload_n (pc := 86) gX 0 dX2_become_86 rfl rfl ?_
        refine z_get (pc := 87) gX (zI_ok gX hAX) (zm 0 rfl) (ci := 2) (C := RX2) (T := TX2) (N := 8) rfl in_X2 4 (by decide) q157 (fun _ h => h) (v := .ref (zsa 1)) rfl dX2_become_87 ?_
        refine z_aload_n (pc := 90) gX 1 dX2_become_90 rfl rfl ?_
        refine z_get (pc := 91) gX (zI_ok gX hAX) (zm 6 rfl) (ci := 2) (C := RX2) (T := TX2) (N := 8) rfl in_X2 4 (by decide) q157 (fun _ h => h) (v := .ref (sa 1)) rfl dX2_become_91 ?_
        refine z_iload_n (pc := 94) gX 2 dX2_become_94 rfl rfl ?_
        refine z_cOF (n := 1) (pc := 95) gX (zI_ok gX hAX) [.int (nI i)] [.ref (zsa 1)] [7, 11] (met_J2_get l D B0 (sa 1) md d n (rF ra n) i (ra i) (by first | assumption | omega) (by first | assumption | omega) (rF_lt (by omega))) q799 q804 q802 q52 (gX.zk.face ⟨by decide +kernel, by decide +kernel⟩ q801 q800 q805 q803 q660) (by unfold zHd; decide +kernel) q806 (zm 7 rfl) (ci := 16) rfl ⟨rfl, rfl⟩ ⟨(Nat.le_of_ble_eq_true rfl), (Nat.le_of_ble_eq_true rfl)⟩ rfl rfl rfl (Nat.le_of_ble_eq_true rfl) ⟨(Nat.le_of_ble_eq_true rfl), (Nat.le_of_ble_eq_true rfl)⟩ dX2_become_95 ?_
        intro _ hu95
        refine z_eq (lv₂ := [(0, .ref (zsa 0)), (1, .ref (sa 0)), (2, .int (nI i))]) (st₂ := [.ref (ra i), .ref (zsa 1)]) ?_ rfl rfl
        refine z_castY (pc := 100) gX (zI_ok gX hAX) (zpm 12 rfl hv) (ci := 6 + kk) hc q817 (gX.zk.cast hcr) dX2_become_100 ?_
        refine z_cMF (n := 1) (pc := 103) gX hAX [.ref (ra i)] [] [1, 5, 12] [0, 2, 3, 4, 6, 7, 8, 9, 10, 11] (fun A1 => met_J2_addg l D B0 A1 (zsa 1) m1 zd i1 f1 T (ra i) (6 + kk) [.int (nI i)] rr (by first | assumption | omega) hv hc) q819 q720 q718 q52 (gX.zk.face ⟨by decide +kernel, by decide +kernel⟩ q717 q716 q721 q719 q660) (by unfold zHd; decide +kernel) q722 (zm 1 rfl) (ci := 16) rfl ⟨rfl, rfl⟩ ⟨(Nat.le_of_ble_eq_true rfl), (Nat.le_of_ble_eq_true rfl)⟩ rfl rfl (zpl 13 rfl (by decide +kernel)) rfl rfl (Nat.le_of_ble_eq_true rfl) ⟨(Nat.le_of_ble_eq_true rfl), (Nat.le_of_ble_eq_true rfl)⟩ dX2_become_103 ?_
        intro _ hu103
        refine z_re [3, 0, 4, 5, 6, 1, 7, 8, 9, 10, 11, 12, 2] [[(zsa 0, .inr (2, [.int st, .int sp, .int tk, .int wn, .ref (zsa 1), .ref (zsa 2), .ref (zsa 3), .ref (zsa 4)]))], [(zsa 1, .inr (16, [.int (m1 + 1), .ref zd, .int (nI (i1 + 1))]))], [(zsa 2, .inl (D.1 100, 7, .inl ln))], [(zsa 3, .inl (D.1 100, 7, .inl wh))], [(zsa 4, .inl (D.1 100, 7, .inl zod))], [(zd, .inl (D.1 104, 10, .inr (.inr (.inr (.inr (va_up f1 i1 (some (ra i))))))))], [(sa 0, .inr (2, [.int st, .int sp, .int tk, .int wn, .ref (sa 1), .ref (sa 2), .ref (sa 3), .ref (sa 4)]))], [(sa 1, .inr (16, [.int md, .ref d, .int (nI n)]))], [(sa 2, .inl (D.1 100, 7, .inl ln))], [(sa 3, .inl (D.1 100, 7, .inl wh))], [(sa 4, .inl (D.1 100, 7, .inl od))], [(d, .inl (D.1 104, 10, .inr (.inr (.inr (.inr (rF ra n))))))], T] rfl (zpl 13 rfl (by decide +kernel)) ?_
        refine z_eq (lv₂ := [(0, .ref (zsa 0)), (1, .ref (sa 0)), (2, .int (nI i))]) (st₂ := [.int (bI true)]) ?_ rfl rfl
        refine z_pop (pc := 108) gX dX2_become_108 rfl ?_
        refine z_iinc (pc := 109) gX 2 (nI (i + 1)) [1, 2, 0] [(0, .ref (zsa 0)), (1, .ref (sa 0)), (2, .int (nI (i + 1)))] dX2_become_109 rfl (nI_1 _) (by decide) rfl ?_
        refine z_goto (pc := 112) gX 73 dX2_become_112 (by decide) ?_
        exact ih73 (i + 1) (va_up f1 i1 (some (ra i))) (m1 + 1) (i1 + 1) (by omega) (by omega) (by rw [hf, hii]; exact rF_s ra i) (by omega)
  exact L73 ((n - 0) + 1) 0 (clQ (rF zra zn) zn) (zmd + 1) 0 (by omega) rfl (clQ_rF _ _ _) (Nat.lt_succ_self _)
theorem hd_X2_become : zHd yX2_become 1 := by unfold zHd; decide +kernel

set_option maxHeartbeats 4000000 in
theorem met_X2_becomeF (l : Launch) (D : va_G) (B0 : Nat) (A : Nat → Prop) (sa : Nat → Nat) (st : Int32) (sp : Int32) (tk : Int32) (wn : Int32) (md : Int32) (d : Nat) (n : Nat) (ln : Nat → Int32) (wh : Nat → Int32) (od : Nat → Int32) (ra : Nat → Nat) (kd : Nat → Int32) (T : va_W) (zsa : Nat → Nat) (zst : Int32) (zsp : Int32) (ztk : Int32) (zwn : Int32) (zmd : Int32) (zln : Nat → Int32) (zwh : Nat → Int32) (zod : Nat → Int32) (hn7 : n ≤ 7) (hR : rOK T n ra kd) (hn1 : 1 ≤ n) : Met l yX2_become (ws_ yX2_become cX2_become 3 (some (.object "StepRiders$Stair"))) (zRm 6 1 10) (va_Pc [.ref (zsa 0), .ref (sa 0)] (zPre B0 D A [[(zsa 0, .inr (2, [.int zst, .int zsp, .int ztk, .int zwn, .ref (zsa 1), .ref (zsa 2), .ref (zsa 3), .ref (zsa 4)]))], [(zsa 1, .inr (16, [.int zmd, .ref (zEE D), .int (nI 0)]))], [(zsa 2, .inl (D.1 100, 7, .inl zln))], [(zsa 3, .inl (D.1 100, 7, .inl zwh))], [(zsa 4, .inl (D.1 100, 7, .inl zod))], [(sa 0, .inr (2, [.int st, .int sp, .int tk, .int wn, .ref (sa 1), .ref (sa 2), .ref (sa 3), .ref (sa 4)]))], [(sa 1, .inr (16, [.int md, .ref d, .int (nI n)]))], [(sa 2, .inl (D.1 100, 7, .inl ln))], [(sa 3, .inl (D.1 100, 7, .inl wh))], [(sa 4, .inl (D.1 100, 7, .inl od))], [(d, .inl (D.1 104, 10, .inr (.inr (.inr (.inr (rF ra n))))))], T])) (zQ (S := Int32 × Nat) (fun u => (fun (md1 : Int32) (zd : Nat) => True) u.1 u.2) (fun u => (fun (md1 : Int32) (zd : Nat) => some (.ref (zsa 0))) u.1 u.2) (fun u => (fun (md1 : Int32) (zd : Nat) => [[(zsa 0, .inr (2, [.int st, .int sp, .int tk, .int wn, .ref (zsa 1), .ref (zsa 2), .ref (zsa 3), .ref (zsa 4)]))], [(zsa 1, .inr (16, [.int md1, .ref zd, .int (nI n)]))], [(zsa 2, .inl (D.1 100, 7, .inl ln))], [(zsa 3, .inl (D.1 100, 7, .inl wh))], [(zsa 4, .inl (D.1 100, 7, .inl zod))], [(sa 0, .inr (2, [.int st, .int sp, .int tk, .int wn, .ref (sa 1), .ref (sa 2), .ref (sa 3), .ref (sa 4)]))], [(sa 1, .inr (16, [.int md, .ref d, .int (nI n)]))], [(sa 2, .inl (D.1 100, 7, .inl ln))], [(sa 3, .inl (D.1 100, 7, .inl wh))], [(sa 4, .inl (D.1 100, 7, .inl od))], [(d, .inl (D.1 104, 10, .inr (.inr (.inr (.inr (rF ra n))))))], [(zd, .inl (D.1 104, 10, .inr (.inr (.inr (.inr (rF ra n))))))], T]) u.1 u.2) D A) 1 10 A := by
  refine z_entry (by decide +kernel) (Nat.le_of_ble_eq_true rfl) (fun pX eX sX mX argsX blX mtX cX QX hQX gX hAX hnm => ?_)
  refine z_eq (lv₂ := [(0, .ref (zsa 0)), (1, .ref (sa 0))]) (st₂ := []) ?_ rfl rfl
  refine z_aload_n (pc := 0) gX 0 dX2_become_0 rfl rfl ?_
  refine z_aload_n (pc := 1) gX 1 dX2_become_1 rfl rfl ?_
  refine z_get (pc := 2) gX (zI_ok gX hAX) (zm 5 rfl) (ci := 2) (C := RX2) (T := TX2) (N := 8) rfl in_X2 0 (by decide) q144 (fun _ h => h) (v := .int st) rfl dX2_become_2 ?_
  refine z_put (pc := 5) gX hAX 0 rfl (ci := 2) (C := RX2) (T := TX2) (N := 8) rfl in_X2 tyX2 tyX2_ok nmX2 0 (by decide) q144 (fun _ h => h) rfl (v := .int st) rfl rfl (Nat.le_of_ble_eq_true rfl) [[(zsa 0, .inr (2, [.int st, .int zsp, .int ztk, .int zwn, .ref (zsa 1), .ref (zsa 2), .ref (zsa 3), .ref (zsa 4)]))], [(zsa 1, .inr (16, [.int zmd, .ref (zEE D), .int (nI 0)]))], [(zsa 2, .inl (D.1 100, 7, .inl zln))], [(zsa 3, .inl (D.1 100, 7, .inl zwh))], [(zsa 4, .inl (D.1 100, 7, .inl zod))], [(sa 0, .inr (2, [.int st, .int sp, .int tk, .int wn, .ref (sa 1), .ref (sa 2), .ref (sa 3), .ref (sa 4)]))], [(sa 1, .inr (16, [.int md, .ref d, .int (nI n)]))], [(sa 2, .inl (D.1 100, 7, .inl ln))], [(sa 3, .inl (D.1 100, 7, .inl wh))], [(sa 4, .inl (D.1 100, 7, .inl od))], [(d, .inl (D.1 104, 10, .inr (.inr (.inr (.inr (rF ra n))))))], T] rfl dX2_become_5 ?_
  refine z_aload_n (pc := 8) gX 0 dX2_become_8 rfl rfl ?_
  refine z_aload_n (pc := 9) gX 1 dX2_become_9 rfl rfl ?_
  refine z_get (pc := 10) gX (zI_ok gX hAX) (zm 5 rfl) (ci := 2) (C := RX2) (T := TX2) (N := 8) rfl in_X2 1 (by decide) q149 (fun _ h => h) (v := .int sp) rfl dX2_become_10 ?_
  refine z_put (pc := 13) gX hAX 0 rfl (ci := 2) (C := RX2) (T := TX2) (N := 8) rfl in_X2 tyX2 tyX2_ok nmX2 1 (by decide) q149 (fun _ h => h) rfl (v := .int sp) rfl rfl (Nat.le_of_ble_eq_true rfl) [[(zsa 0, .inr (2, [.int st, .int sp, .int ztk, .int zwn, .ref (zsa 1), .ref (zsa 2), .ref (zsa 3), .ref (zsa 4)]))], [(zsa 1, .inr (16, [.int zmd, .ref (zEE D), .int (nI 0)]))], [(zsa 2, .inl (D.1 100, 7, .inl zln))], [(zsa 3, .inl (D.1 100, 7, .inl zwh))], [(zsa 4, .inl (D.1 100, 7, .inl zod))], [(sa 0, .inr (2, [.int st, .int sp, .int tk, .int wn, .ref (sa 1), .ref (sa 2), .ref (sa 3), .ref (sa 4)]))], [(sa 1, .inr (16, [.int md, .ref d, .int (nI n)]))], [(sa 2, .inl (D.1 100, 7, .inl ln))], [(sa 3, .inl (D.1 100, 7, .inl wh))], [(sa 4, .inl (D.1 100, 7, .inl od))], [(d, .inl (D.1 104, 10, .inr (.inr (.inr (.inr (rF ra n))))))], T] rfl dX2_become_13 ?_
  refine z_aload_n (pc := 16) gX 0 dX2_become_16 rfl rfl ?_
  refine z_aload_n (pc := 17) gX 1 dX2_become_17 rfl rfl ?_
  refine z_get (pc := 18) gX (zI_ok gX hAX) (zm 5 rfl) (ci := 2) (C := RX2) (T := TX2) (N := 8) rfl in_X2 2 (by decide) q152 (fun _ h => h) (v := .int tk) rfl dX2_become_18 ?_
  refine z_put (pc := 21) gX hAX 0 rfl (ci := 2) (C := RX2) (T := TX2) (N := 8) rfl in_X2 tyX2 tyX2_ok nmX2 2 (by decide) q152 (fun _ h => h) rfl (v := .int tk) rfl rfl (Nat.le_of_ble_eq_true rfl) [[(zsa 0, .inr (2, [.int st, .int sp, .int tk, .int zwn, .ref (zsa 1), .ref (zsa 2), .ref (zsa 3), .ref (zsa 4)]))], [(zsa 1, .inr (16, [.int zmd, .ref (zEE D), .int (nI 0)]))], [(zsa 2, .inl (D.1 100, 7, .inl zln))], [(zsa 3, .inl (D.1 100, 7, .inl zwh))], [(zsa 4, .inl (D.1 100, 7, .inl zod))], [(sa 0, .inr (2, [.int st, .int sp, .int tk, .int wn, .ref (sa 1), .ref (sa 2), .ref (sa 3), .ref (sa 4)]))], [(sa 1, .inr (16, [.int md, .ref d, .int (nI n)]))], [(sa 2, .inl (D.1 100, 7, .inl ln))], [(sa 3, .inl (D.1 100, 7, .inl wh))], [(sa 4, .inl (D.1 100, 7, .inl od))], [(d, .inl (D.1 104, 10, .inr (.inr (.inr (.inr (rF ra n))))))], T] rfl dX2_become_21 ?_
  refine z_aload_n (pc := 24) gX 0 dX2_become_24 rfl rfl ?_
  refine z_aload_n (pc := 25) gX 1 dX2_become_25 rfl rfl ?_
  refine z_get (pc := 26) gX (zI_ok gX hAX) (zm 5 rfl) (ci := 2) (C := RX2) (T := TX2) (N := 8) rfl in_X2 3 (by decide) q155 (fun _ h => h) (v := .int wn) rfl dX2_become_26 ?_
  refine z_put (pc := 29) gX hAX 0 rfl (ci := 2) (C := RX2) (T := TX2) (N := 8) rfl in_X2 tyX2 tyX2_ok nmX2 3 (by decide) q155 (fun _ h => h) rfl (v := .int wn) rfl rfl (Nat.le_of_ble_eq_true rfl) [[(zsa 0, .inr (2, [.int st, .int sp, .int tk, .int wn, .ref (zsa 1), .ref (zsa 2), .ref (zsa 3), .ref (zsa 4)]))], [(zsa 1, .inr (16, [.int zmd, .ref (zEE D), .int (nI 0)]))], [(zsa 2, .inl (D.1 100, 7, .inl zln))], [(zsa 3, .inl (D.1 100, 7, .inl zwh))], [(zsa 4, .inl (D.1 100, 7, .inl zod))], [(sa 0, .inr (2, [.int st, .int sp, .int tk, .int wn, .ref (sa 1), .ref (sa 2), .ref (sa 3), .ref (sa 4)]))], [(sa 1, .inr (16, [.int md, .ref d, .int (nI n)]))], [(sa 2, .inl (D.1 100, 7, .inl ln))], [(sa 3, .inl (D.1 100, 7, .inl wh))], [(sa 4, .inl (D.1 100, 7, .inl od))], [(d, .inl (D.1 104, 10, .inr (.inr (.inr (.inr (rF ra n))))))], T] rfl dX2_become_29 ?_
  refine z_aload_n (pc := 32) gX 1 dX2_become_32 rfl rfl ?_
  refine z_get (pc := 33) gX (zI_ok gX hAX) (zm 5 rfl) (ci := 2) (C := RX2) (T := TX2) (N := 8) rfl in_X2 5 (by decide) q161 (fun _ h => h) (v := .ref (sa 2)) rfl dX2_become_33 ?_
  refine z_iconst (pc := 36) gX 0 dX2_become_36 (by decide) ?_
  refine z_aload_n (pc := 37) gX 0 dX2_become_37 rfl rfl ?_
  refine z_get (pc := 38) gX (zI_ok gX hAX) (zm 0 rfl) (ci := 2) (C := RX2) (T := TX2) (N := 8) rfl in_X2 5 (by decide) q161 (fun _ h => h) (v := .ref (zsa 2)) rfl dX2_become_38 ?_
  refine z_iconst (pc := 41) gX 0 dX2_become_41 (by decide) ?_
  refine z_bipush (pc := 42) gX 7 dX2_become_42 (by decide) ?_
  refine z_eq (lv₂ := [(0, .ref (zsa 0)), (1, .ref (sa 0))]) (st₂ := .int (nI 7) :: .int (nI 0) :: .ref (zsa 2) :: .int (nI 0) :: .ref (sa 2) :: []) ?_ rfl rfl
  refine z_copyi (pc := 44) gX hAX ⟨q788, q444, q443, q64⟩ 7 2 0 rfl rfl rfl rfl (by omega) (by omega) (by omega) (fun _ _ => rfl) (Nat.le_of_ble_eq_true rfl) (Nat.le_of_ble_eq_true rfl) [[(zsa 0, .inr (2, [.int st, .int sp, .int tk, .int wn, .ref (zsa 1), .ref (zsa 2), .ref (zsa 3), .ref (zsa 4)]))], [(zsa 1, .inr (16, [.int zmd, .ref (zEE D), .int (nI 0)]))], [(zsa 2, .inl (D.1 100, 7, .inl (va_cpy ln zln 0 0 7)))], [(zsa 3, .inl (D.1 100, 7, .inl zwh))], [(zsa 4, .inl (D.1 100, 7, .inl zod))], [(sa 0, .inr (2, [.int st, .int sp, .int tk, .int wn, .ref (sa 1), .ref (sa 2), .ref (sa 3), .ref (sa 4)]))], [(sa 1, .inr (16, [.int md, .ref d, .int (nI n)]))], [(sa 2, .inl (D.1 100, 7, .inl ln))], [(sa 3, .inl (D.1 100, 7, .inl wh))], [(sa 4, .inl (D.1 100, 7, .inl od))], [(d, .inl (D.1 104, 10, .inr (.inr (.inr (.inr (rF ra n))))))], T] rfl dX2_become_44 ?_
  refine z_ext 2 ln rfl (fun q hq => sb_cpy0 hq) [[(zsa 0, .inr (2, [.int st, .int sp, .int tk, .int wn, .ref (zsa 1), .ref (zsa 2), .ref (zsa 3), .ref (zsa 4)]))], [(zsa 1, .inr (16, [.int zmd, .ref (zEE D), .int (nI 0)]))], [(zsa 2, .inl (D.1 100, 7, .inl ln))], [(zsa 3, .inl (D.1 100, 7, .inl zwh))], [(zsa 4, .inl (D.1 100, 7, .inl zod))], [(sa 0, .inr (2, [.int st, .int sp, .int tk, .int wn, .ref (sa 1), .ref (sa 2), .ref (sa 3), .ref (sa 4)]))], [(sa 1, .inr (16, [.int md, .ref d, .int (nI n)]))], [(sa 2, .inl (D.1 100, 7, .inl ln))], [(sa 3, .inl (D.1 100, 7, .inl wh))], [(sa 4, .inl (D.1 100, 7, .inl od))], [(d, .inl (D.1 104, 10, .inr (.inr (.inr (.inr (rF ra n))))))], T] rfl ?_
  refine z_aload_n (pc := 47) gX 1 dX2_become_47 rfl rfl ?_
  refine z_get (pc := 48) gX (zI_ok gX hAX) (zm 5 rfl) (ci := 2) (C := RX2) (T := TX2) (N := 8) rfl in_X2 6 (by decide) q167 (fun _ h => h) (v := .ref (sa 3)) rfl dX2_become_48 ?_
  refine z_iconst (pc := 51) gX 0 dX2_become_51 (by decide) ?_
  refine z_aload_n (pc := 52) gX 0 dX2_become_52 rfl rfl ?_
  refine z_get (pc := 53) gX (zI_ok gX hAX) (zm 0 rfl) (ci := 2) (C := RX2) (T := TX2) (N := 8) rfl in_X2 6 (by decide) q167 (fun _ h => h) (v := .ref (zsa 3)) rfl dX2_become_53 ?_
  refine z_iconst (pc := 56) gX 0 dX2_become_56 (by decide) ?_
  refine z_bipush (pc := 57) gX 7 dX2_become_57 (by decide) ?_
  refine z_eq (lv₂ := [(0, .ref (zsa 0)), (1, .ref (sa 0))]) (st₂ := .int (nI 7) :: .int (nI 0) :: .ref (zsa 3) :: .int (nI 0) :: .ref (sa 3) :: []) ?_ rfl rfl
  refine z_copyi (pc := 59) gX hAX ⟨q788, q444, q443, q64⟩ 8 3 0 rfl rfl rfl rfl (by omega) (by omega) (by omega) (fun _ _ => rfl) (Nat.le_of_ble_eq_true rfl) (Nat.le_of_ble_eq_true rfl) [[(zsa 0, .inr (2, [.int st, .int sp, .int tk, .int wn, .ref (zsa 1), .ref (zsa 2), .ref (zsa 3), .ref (zsa 4)]))], [(zsa 1, .inr (16, [.int zmd, .ref (zEE D), .int (nI 0)]))], [(zsa 2, .inl (D.1 100, 7, .inl ln))], [(zsa 3, .inl (D.1 100, 7, .inl (va_cpy wh zwh 0 0 7)))], [(zsa 4, .inl (D.1 100, 7, .inl zod))], [(sa 0, .inr (2, [.int st, .int sp, .int tk, .int wn, .ref (sa 1), .ref (sa 2), .ref (sa 3), .ref (sa 4)]))], [(sa 1, .inr (16, [.int md, .ref d, .int (nI n)]))], [(sa 2, .inl (D.1 100, 7, .inl ln))], [(sa 3, .inl (D.1 100, 7, .inl wh))], [(sa 4, .inl (D.1 100, 7, .inl od))], [(d, .inl (D.1 104, 10, .inr (.inr (.inr (.inr (rF ra n))))))], T] rfl dX2_become_59 ?_
  refine z_ext 3 wh rfl (fun q hq => sb_cpy0 hq) [[(zsa 0, .inr (2, [.int st, .int sp, .int tk, .int wn, .ref (zsa 1), .ref (zsa 2), .ref (zsa 3), .ref (zsa 4)]))], [(zsa 1, .inr (16, [.int zmd, .ref (zEE D), .int (nI 0)]))], [(zsa 2, .inl (D.1 100, 7, .inl ln))], [(zsa 3, .inl (D.1 100, 7, .inl wh))], [(zsa 4, .inl (D.1 100, 7, .inl zod))], [(sa 0, .inr (2, [.int st, .int sp, .int tk, .int wn, .ref (sa 1), .ref (sa 2), .ref (sa 3), .ref (sa 4)]))], [(sa 1, .inr (16, [.int md, .ref d, .int (nI n)]))], [(sa 2, .inl (D.1 100, 7, .inl ln))], [(sa 3, .inl (D.1 100, 7, .inl wh))], [(sa 4, .inl (D.1 100, 7, .inl od))], [(d, .inl (D.1 104, 10, .inr (.inr (.inr (.inr (rF ra n))))))], T] rfl ?_
  refine z_aload_n (pc := 62) gX 0 dX2_become_62 rfl rfl ?_
  refine z_get (pc := 63) gX (zI_ok gX hAX) (zm 0 rfl) (ci := 2) (C := RX2) (T := TX2) (N := 8) rfl in_X2 4 (by decide) q157 (fun _ h => h) (v := .ref (zsa 1)) rfl dX2_become_63 ?_
  refine z_cMF (n := 0) (pc := 66) gX hAX [] [] [1] [0, 2, 3, 4, 5, 6, 7, 8, 9, 10, 11] (fun A1 => met_J2_clearf l D B0 A1 (zsa 1) zmd ) q790 q795 q793 q52 (gX.zk.face ⟨by decide +kernel, by decide +kernel⟩ q792 q791 q796 q794 q660) (by unfold zHd; decide +kernel) q797 (zm 1 rfl) (ci := 16) rfl ⟨rfl, rfl⟩ ⟨(Nat.le_of_ble_eq_true rfl), (Nat.le_of_ble_eq_true rfl)⟩ rfl rfl (zpl 12 rfl (by decide +kernel)) rfl rfl (Nat.le_of_ble_eq_true rfl) ⟨(Nat.le_of_ble_eq_true rfl), (Nat.le_of_ble_eq_true rfl)⟩ dX2_become_66 ?_
  intro _ hu66
  refine z_re [1, 0, 2, 3, 4, 5, 6, 7, 8, 9, 10, 11] [[(zsa 0, .inr (2, [.int st, .int sp, .int tk, .int wn, .ref (zsa 1), .ref (zsa 2), .ref (zsa 3), .ref (zsa 4)]))], [(zsa 1, .inr (16, [.int (zmd + 1), .ref (zEE D), .int (nI 0)]))], [(zsa 2, .inl (D.1 100, 7, .inl ln))], [(zsa 3, .inl (D.1 100, 7, .inl wh))], [(zsa 4, .inl (D.1 100, 7, .inl zod))], [(sa 0, .inr (2, [.int st, .int sp, .int tk, .int wn, .ref (sa 1), .ref (sa 2), .ref (sa 3), .ref (sa 4)]))], [(sa 1, .inr (16, [.int md, .ref d, .int (nI n)]))], [(sa 2, .inl (D.1 100, 7, .inl ln))], [(sa 3, .inl (D.1 100, 7, .inl wh))], [(sa 4, .inl (D.1 100, 7, .inl od))], [(d, .inl (D.1 104, 10, .inr (.inr (.inr (.inr (rF ra n))))))], T] rfl (zpl 12 rfl (by decide +kernel)) ?_
  refine z_eq (lv₂ := [(0, .ref (zsa 0)), (1, .ref (sa 0))]) (st₂ := []) ?_ rfl rfl
  refine z_iconst (pc := 71) gX 0 dX2_become_71 (by decide) ?_
  refine z_istore_n (pc := 72) gX [1, 2, 0] [(0, .ref (zsa 0)), (1, .ref (sa 0)), (2, .int 0)] dX2_become_72 rfl (by decide) rfl ?_
  refine z_iload_n (pc := 73) gX 2 dX2_become_73 rfl rfl ?_
  refine z_aload_n (pc := 74) gX 1 dX2_become_74 rfl rfl ?_
  refine z_get (pc := 75) gX (zI_ok gX hAX) (zm 5 rfl) (ci := 2) (C := RX2) (T := TX2) (N := 8) rfl in_X2 4 (by decide) q157 (fun _ h => h) (v := .ref (sa 1)) rfl dX2_become_75 ?_
  refine z_cOF (n := 0) (pc := 78) gX (zI_ok gX hAX) [] [.int 0] [6] (met_J2_size l D B0 (sa 1) md d n ) q657 q663 q661 q52 (gX.zk.face ⟨by decide +kernel, by decide +kernel⟩ q659 q658 q664 q662 q660) (by unfold zHd; decide +kernel) q665 (zm 6 rfl) (ci := 16) rfl ⟨rfl, rfl⟩ ⟨(Nat.le_of_ble_eq_true rfl), (Nat.le_of_ble_eq_true rfl)⟩ rfl rfl rfl (Nat.le_of_ble_eq_true rfl) ⟨(Nat.le_of_ble_eq_true rfl), (Nat.le_of_ble_eq_true rfl)⟩ dX2_become_78 ?_
  intro _ hu78
  refine z_eq (lv₂ := [(0, .ref (zsa 0)), (1, .ref (sa 0)), (2, .int 0)]) (st₂ := [.int (nI n), .int 0]) ?_ rfl rfl
  refine z_icmp_ge (pc := 83) gX 115 dX2_become_83 (by decide) (fun c83 => ?_) (fun c83 => ?_)
  · skip
    have k83 : n ≤ 0 := (zn_le (a := n) (b := 0) (by omega) (by omega)).mp c83
    exact absurd k83 (by omega)
  · skip
    have k83 : 0 < n := (zn_nle (a := n) (b := 0) (by omega) (by omega)).mp c83
    obtain ⟨kk, hk1, hk5, hkd, hv⟩ := hR 0 (by omega)
    obtain ⟨rr, hc, hcr⟩ := rCl kk hk1 hk5
    refine z_aload_n (pc := 86) gX 0 dX2_become_86 rfl rfl ?_
    refine z_get (pc := 87) gX (zI_ok gX hAX) (zm 0 rfl) (ci := 2) (C := RX2) (T := TX2) (N := 8) rfl in_X2 4 (by decide) q157 (fun _ h => h) (v := .ref (zsa 1)) rfl dX2_become_87 ?_
    refine z_aload_n (pc := 90) gX 1 dX2_become_90 rfl rfl ?_
    refine z_get (pc := 91) gX (zI_ok gX hAX) (zm 5 rfl) (ci := 2) (C := RX2) (T := TX2) (N := 8) rfl in_X2 4 (by decide) q157 (fun _ h => h) (v := .ref (sa 1)) rfl dX2_become_91 ?_
    refine z_iload_n (pc := 94) gX 2 dX2_become_94 rfl rfl ?_
    refine z_cOF (n := 1) (pc := 95) gX (zI_ok gX hAX) [.int 0] [.ref (zsa 1)] [6, 10] (met_J2_get l D B0 (sa 1) md d n (rF ra n) 0 (ra 0) (by first | assumption | omega) (by first | assumption | omega) (rF_lt (by omega))) q799 q804 q802 q52 (gX.zk.face ⟨by decide +kernel, by decide +kernel⟩ q801 q800 q805 q803 q660) (by unfold zHd; decide +kernel) q806 (zm 6 rfl) (ci := 16) rfl ⟨rfl, rfl⟩ ⟨(Nat.le_of_ble_eq_true rfl), (Nat.le_of_ble_eq_true rfl)⟩ rfl rfl rfl (Nat.le_of_ble_eq_true rfl) ⟨(Nat.le_of_ble_eq_true rfl), (Nat.le_of_ble_eq_true rfl)⟩ dX2_become_95 ?_
    intro _ hu95
    refine z_eq (lv₂ := [(0, .ref (zsa 0)), (1, .ref (sa 0)), (2, .int 0)]) (st₂ := [.ref (ra 0), .ref (zsa 1)]) ?_ rfl rfl
    refine z_castY (pc := 100) gX (zI_ok gX hAX) (zpm 11 rfl hv) (ci := 6 + kk) hc q817 (gX.zk.cast hcr) dX2_become_100 ?_
    refine z_cMF (n := 1) (pc := 103) gX hAX [.ref (ra 0)] [] [1, 11] [0, 2, 3, 4, 5, 6, 7, 8, 9, 10] (fun A1 => met_J2_addf l D B0 A1 (zsa 1) (zmd + 1) T (ra 0) (6 + kk) [.int (nI 0)] rr hv hc) q819 q720 q718 q52 (gX.zk.face ⟨by decide +kernel, by decide +kernel⟩ q717 q716 q721 q719 q660) (by unfold zHd; decide +kernel) q722 (zm 1 rfl) (ci := 16) rfl ⟨rfl, rfl⟩ ⟨(Nat.le_of_ble_eq_true rfl), (Nat.le_of_ble_eq_true rfl)⟩ rfl rfl (zpl 12 rfl (by decide +kernel)) rfl rfl (Nat.le_of_ble_eq_true rfl) ⟨(Nat.le_of_ble_eq_true rfl), (Nat.le_of_ble_eq_true rfl)⟩ dX2_become_103 ?_
    intro u103 hu103
    obtain ⟨q_103, rfl⟩ : ∃ z, z = u103 := ⟨_, rfl⟩
    refine z_re [3, 0, 4, 5, 6, 7, 8, 9, 10, 11, 12, 1, 2] [[(zsa 0, .inr (2, [.int st, .int sp, .int tk, .int wn, .ref (zsa 1), .ref (zsa 2), .ref (zsa 3), .ref (zsa 4)]))], [(zsa 1, .inr (16, [.int ((zmd + 1) + 1), .ref q_103, .int (nI 1)]))], [(zsa 2, .inl (D.1 100, 7, .inl ln))], [(zsa 3, .inl (D.1 100, 7, .inl wh))], [(zsa 4, .inl (D.1 100, 7, .inl zod))], [(sa 0, .inr (2, [.int st, .int sp, .int tk, .int wn, .ref (sa 1), .ref (sa 2), .ref (sa 3), .ref (sa 4)]))], [(sa 1, .inr (16, [.int md, .ref d, .int (nI n)]))], [(sa 2, .inl (D.1 100, 7, .inl ln))], [(sa 3, .inl (D.1 100, 7, .inl wh))], [(sa 4, .inl (D.1 100, 7, .inl od))], [(d, .inl (D.1 104, 10, .inr (.inr (.inr (.inr (rF ra n))))))], [(q_103, .inl (D.1 104, 10, .inr (.inr (.inr (.inr (va_up (fun _ => none) 0 (some (ra 0))))))))], T] rfl (zpl 13 rfl (by decide +kernel)) ?_
    refine z_norm [[(zsa 0, .inr (2, [.int st, .int sp, .int tk, .int wn, .ref (zsa 1), .ref (zsa 2), .ref (zsa 3), .ref (zsa 4)]))], [(zsa 1, .inr (16, [.int ((zmd + 1) + 1), .ref q_103, .int (nI 1)]))], [(zsa 2, .inl (D.1 100, 7, .inl ln))], [(zsa 3, .inl (D.1 100, 7, .inl wh))], [(zsa 4, .inl (D.1 100, 7, .inl zod))], [(sa 0, .inr (2, [.int st, .int sp, .int tk, .int wn, .ref (sa 1), .ref (sa 2), .ref (sa 3), .ref (sa 4)]))], [(sa 1, .inr (16, [.int md, .ref d, .int (nI n)]))], [(sa 2, .inl (D.1 100, 7, .inl ln))], [(sa 3, .inl (D.1 100, 7, .inl wh))], [(sa 4, .inl (D.1 100, 7, .inl od))], [(d, .inl (D.1 104, 10, .inr (.inr (.inr (.inr (rF ra n))))))], [(q_103, .inl (D.1 104, 10, .inr (.inr (.inr (.inr (va_up (fun _ => none) 0 (some (ra 0))))))))], T] 1 10 ?_ rfl rfl rfl
    refine z_eq (lv₂ := [(0, .ref (zsa 0)), (1, .ref (sa 0)), (2, .int 0)]) (st₂ := [.int (bI true)]) ?_ rfl rfl
    refine z_pop (pc := 108) gX dX2_become_108 rfl ?_
    refine z_iinc (pc := 109) gX 2 (nI 1) [1, 2, 0] [(0, .ref (zsa 0)), (1, .ref (sa 0)), (2, .int (nI 1))] dX2_become_109 rfl (nI_1 _) (by decide) rfl ?_
    refine z_goto (pc := 112) gX 73 dX2_become_112 (by decide) ?_
    have L73 : ∀ (n73 : Nat) (i : Nat) (f1 : Nat → Option Nat) (m1 : Int32) (i1 : Nat), (i ≤ n) → (i1 = i) → (f1 = rF ra i) → n - i < n73 → zJ pX l eX (zRm 6 1 10) sX mX argsX blX mtX cX QX 3 (zI D A sX [[(zsa 0, .inr (2, [.int st, .int sp, .int tk, .int wn, .ref (zsa 1), .ref (zsa 2), .ref (zsa 3), .ref (zsa 4)]))], [(zsa 1, .inr (16, [.int m1, .ref q_103, .int (nI i1)]))], [(zsa 2, .inl (D.1 100, 7, .inl ln))], [(zsa 3, .inl (D.1 100, 7, .inl wh))], [(zsa 4, .inl (D.1 100, 7, .inl zod))], [(sa 0, .inr (2, [.int st, .int sp, .int tk, .int wn, .ref (sa 1), .ref (sa 2), .ref (sa 3), .ref (sa 4)]))], [(sa 1, .inr (16, [.int md, .ref d, .int (nI n)]))], [(sa 2, .inl (D.1 100, 7, .inl ln))], [(sa 3, .inl (D.1 100, 7, .inl wh))], [(sa 4, .inl (D.1 100, 7, .inl od))], [(d, .inl (D.1 104, 10, .inr (.inr (.inr (.inr (rF ra n))))))], [(q_103, .inl (D.1 104, 10, .inr (.inr (.inr (.inr f1)))))], T]) 1 10 73 [(0, .ref (zsa 0)), (1, .ref (sa 0)), (2, .int (nI i))] [] := by
      intro n73
      induction n73 with
      | zero => exact fun i f1 m1 i1 hi hii hf hm73 => absurd hm73 (Nat.not_lt_zero _)
      | succ n73 ih73 =>
        intro i f1 m1 i1 hi hii hf hm73
        refine z_iload_n (pc := 73) gX 2 dX2_become_73 rfl rfl ?_
        refine z_aload_n (pc := 74) gX 1 dX2_become_74 rfl rfl ?_
        refine z_get (pc := 75) gX (zI_ok gX hAX) (zm 5 rfl) (ci := 2) (C := RX2) (T := TX2) (N := 8) rfl in_X2 4 (by decide) q157 (fun _ h => h) (v := .ref (sa 1)) rfl dX2_become_75 ?_
        refine z_cOF (n := 0) (pc := 78) gX (zI_ok gX hAX) [] [.int (nI i)] [6] (met_J2_size l D B0 (sa 1) md d n ) q657 q663 q661 q52 (gX.zk.face ⟨by decide +kernel, by decide +kernel⟩ q659 q658 q664 q662 q660) (by unfold zHd; decide +kernel) q665 (zm 6 rfl) (ci := 16) rfl ⟨rfl, rfl⟩ ⟨(Nat.le_of_ble_eq_true rfl), (Nat.le_of_ble_eq_true rfl)⟩ rfl rfl rfl (Nat.le_of_ble_eq_true rfl) ⟨(Nat.le_of_ble_eq_true rfl), (Nat.le_of_ble_eq_true rfl)⟩ dX2_become_78 ?_
        intro _ hu78
        refine z_eq (lv₂ := [(0, .ref (zsa 0)), (1, .ref (sa 0)), (2, .int (nI i))]) (st₂ := [.int (nI n), .int (nI i)]) ?_ rfl rfl
        refine z_icmp_ge (pc := 83) gX 115 dX2_become_83 (by decide) (fun c83 => ?_) (fun c83 => ?_)
        · skip
          have k83 : n ≤ i := (zn_le (a := n) (b := i) (by omega) (by omega)).mp c83
          refine z_aload_n (pc := 115) gX 0 dX2_become_115 rfl rfl ?_
          exact z_aret gX hQX (by first | exact Or.inl ⟨_, rfl⟩ | exact Or.inr ⟨_, rfl⟩) (Or.inr ⟨_, rfl⟩) (m1, q_103) trivial rfl (by rw [hf, hii, show i = n by omega]) (by first | decide | omega) (by first | decide | omega) dX2_become_116
        · skip
          have k83 : i < n := (zn_nle (a := n) (b := i) (by omega) (by omega)).mp c83
          obtain ⟨kk, hk1, hk5, hkd, hv⟩ := hR i (by omega)
          obtain ⟨rr, hc, hcr⟩ := rCl kk hk1 hk5
          refine z_aload_n (pc := 86) gX 0 dX2_become_86 rfl rfl ?_
          refine z_get (pc := 87) gX (zI_ok gX hAX) (zm 0 rfl) (ci := 2) (C := RX2) (T := TX2) (N := 8) rfl in_X2 4 (by decide) q157 (fun _ h => h) (v := .ref (zsa 1)) rfl dX2_become_87 ?_
          refine z_aload_n (pc := 90) gX 1 dX2_become_90 rfl rfl ?_
          refine z_get (pc := 91) gX (zI_ok gX hAX) (zm 5 rfl) (ci := 2) (C := RX2) (T := TX2) (N := 8) rfl in_X2 4 (by decide) q157 (fun _ h => h) (v := .ref (sa 1)) rfl dX2_become_91 ?_
          refine z_iload_n (pc := 94) gX 2 dX2_become_94 rfl rfl ?_
          refine z_cOF (n := 1) (pc := 95) gX (zI_ok gX hAX) [.int (nI i)] [.ref (zsa 1)] [6, 10] (met_J2_get l D B0 (sa 1) md d n (rF ra n) i (ra i) (by first | assumption | omega) (by first | assumption | omega) (rF_lt (by omega))) q799 q804 q802 q52 (gX.zk.face ⟨by decide +kernel, by decide +kernel⟩ q801 q800 q805 q803 q660) (by unfold zHd; decide +kernel) q806 (zm 6 rfl) (ci := 16) rfl ⟨rfl, rfl⟩ ⟨(Nat.le_of_ble_eq_true rfl), (Nat.le_of_ble_eq_true rfl)⟩ rfl rfl rfl (Nat.le_of_ble_eq_true rfl) ⟨(Nat.le_of_ble_eq_true rfl), (Nat.le_of_ble_eq_true rfl)⟩ dX2_become_95 ?_
          intro _ hu95
          refine z_eq (lv₂ := [(0, .ref (zsa 0)), (1, .ref (sa 0)), (2, .int (nI i))]) (st₂ := [.ref (ra i), .ref (zsa 1)]) ?_ rfl rfl
          refine z_castY (pc := 100) gX (zI_ok gX hAX) (zpm 12 rfl hv) (ci := 6 + kk) hc q817 (gX.zk.cast hcr) dX2_become_100 ?_
          refine z_cMF (n := 1) (pc := 103) gX hAX [.ref (ra i)] [] [1, 11, 12] [0, 2, 3, 4, 5, 6, 7, 8, 9, 10] (fun A1 => met_J2_addg l D B0 A1 (zsa 1) m1 q_103 i1 f1 T (ra i) (6 + kk) [.int (nI i)] rr (by first | assumption | omega) hv hc) q819 q720 q718 q52 (gX.zk.face ⟨by decide +kernel, by decide +kernel⟩ q717 q716 q721 q719 q660) (by unfold zHd; decide +kernel) q722 (zm 1 rfl) (ci := 16) rfl ⟨rfl, rfl⟩ ⟨(Nat.le_of_ble_eq_true rfl), (Nat.le_of_ble_eq_true rfl)⟩ rfl rfl (zpl 13 rfl (by decide +kernel)) rfl rfl (Nat.le_of_ble_eq_true rfl) ⟨(Nat.le_of_ble_eq_true rfl), (Nat.le_of_ble_eq_true rfl)⟩ dX2_become_103 ?_
          intro _ hu103
          refine z_re [3, 0, 4, 5, 6, 7, 8, 9, 10, 11, 12, 1, 2] [[(zsa 0, .inr (2, [.int st, .int sp, .int tk, .int wn, .ref (zsa 1), .ref (zsa 2), .ref (zsa 3), .ref (zsa 4)]))], [(zsa 1, .inr (16, [.int (m1 + 1), .ref q_103, .int (nI (i1 + 1))]))], [(zsa 2, .inl (D.1 100, 7, .inl ln))], [(zsa 3, .inl (D.1 100, 7, .inl wh))], [(zsa 4, .inl (D.1 100, 7, .inl zod))], [(sa 0, .inr (2, [.int st, .int sp, .int tk, .int wn, .ref (sa 1), .ref (sa 2), .ref (sa 3), .ref (sa 4)]))], [(sa 1, .inr (16, [.int md, .ref d, .int (nI n)]))], [(sa 2, .inl (D.1 100, 7, .inl ln))], [(sa 3, .inl (D.1 100, 7, .inl wh))], [(sa 4, .inl (D.1 100, 7, .inl od))], [(d, .inl (D.1 104, 10, .inr (.inr (.inr (.inr (rF ra n))))))], [(q_103, .inl (D.1 104, 10, .inr (.inr (.inr (.inr (va_up f1 i1 (some (ra i))))))))], T] rfl (zpl 13 rfl (by decide +kernel)) ?_
          refine z_eq (lv₂ := [(0, .ref (zsa 0)), (1, .ref (sa 0)), (2, .int (nI i))]) (st₂ := [.int (bI true)]) ?_ rfl rfl
          refine z_pop (pc := 108) gX dX2_become_108 rfl ?_
          refine z_iinc (pc := 109) gX 2 (nI (i + 1)) [1, 2, 0] [(0, .ref (zsa 0)), (1, .ref (sa 0)), (2, .int (nI (i + 1)))] dX2_become_109 rfl (nI_1 _) (by decide) rfl ?_
          refine z_goto (pc := 112) gX 73 dX2_become_112 (by decide) ?_
          exact ih73 (i + 1) (va_up f1 i1 (some (ra i))) (m1 + 1) (i1 + 1) (by omega) (by omega) (by rw [hf, hii]; exact rF_s ra i) (by omega)
    exact L73 ((n - 1) + 1) 1 (va_up (fun _ => none) 0 (some (ra 0))) ((zmd + 1) + 1) 1 (by omega) rfl (by rw [rF_0 ra]; exact rF_s ra 0) (Nat.lt_succ_self _)

set_option maxHeartbeats 4000000 in
theorem met_X2_init (l : Launch) (D : va_G) (B0 : Nat) (A : Nat → Prop) (o : Nat)  : Met l yX2_init (ws_ yX2_init cX2_init 1 none) (zRm 4 4 24) (va_Pc [.ref o] (zPre B0 D A [[(o, .inr (2, [.int 0, .int 0, .int 0, .int 0, .null, .null, .null, .null]))]])) (zQ (S := Nat × Nat × Nat × Nat) (fun u => (fun (a1 : Nat) (a2 : Nat) (a3 : Nat) (a4 : Nat) => True) u.1 u.2.1 u.2.2.1 u.2.2.2) (fun u => (fun (a1 : Nat) (a2 : Nat) (a3 : Nat) (a4 : Nat) => none) u.1 u.2.1 u.2.2.1 u.2.2.2) (fun u => (fun (a1 : Nat) (a2 : Nat) (a3 : Nat) (a4 : Nat) => [[(o, .inr (2, [.int 0, .int 0, .int 0, .int 0, .ref a1, .ref a2, .ref a3, .ref a4]))], [(a1, .inr (16, [.int 0, .ref (zEE D), .int (nI 0)]))], [(a2, .inl (D.1 100, 7, .inl (fun _ => 0)))], [(a3, .inl (D.1 100, 7, .inl (fun _ => 0)))], [(a4, .inl (D.1 100, 7, .inl (fun _ => 0)))]]) u.1 u.2.1 u.2.2.1 u.2.2.2) D A) 4 24 A := by
  refine z_entry (by decide +kernel) (Nat.le_of_ble_eq_true rfl) (fun pX eX sX mX argsX blX mtX cX QX hQX gX hAX hnm => ?_)
  refine z_eq (lv₂ := [(0, .ref o)]) (st₂ := []) ?_ rfl rfl
  refine z_aload_n (pc := 0) gX 0 dX2_init_0 rfl rfl ?_
  refine z_objInit (pc := 1) gX q116 q_oi2 q_oi3 dX2_init_1 (Nat.le_of_ble_eq_true rfl) (Nat.le_of_ble_eq_true rfl) ?_
  refine z_aload_n (pc := 4) gX 0 dX2_init_4 rfl rfl ?_
  refine z_new (pc := 5) gX hAX (ci := 16) (C := RJ2) (T := TJ2) (N := 3) rfl in_J2 tyJ2 tyJ2_ok q117 q118 q52 [.int 0, .null, .int 0] (by decide +kernel) (by decide) (by decide) dX2_init_5 (fun q5 => ?_)
  refine z_norm [[(o, .inr (2, [.int 0, .int 0, .int 0, .int 0, .null, .null, .null, .null]))], [(q5, .inr (16, [.int 0, .null, .int 0]))]] 1 3 ?_ rfl rfl rfl
  refine z_dup (pc := 8) gX dX2_init_8 rfl ?_
  refine z_cMI (pc := 9) gX hAX [] [.ref q5, .ref o] [1] [0] (fun A1 => met_J2_init l D B0 A1 q5 ) q119 q120 q52 q121 rfl hd_J2_init ⟨rfl, rfl⟩ ⟨(Nat.le_of_ble_eq_true rfl), (Nat.le_of_ble_eq_true rfl)⟩ rfl rfl rfl rfl rfl (Nat.le_of_ble_eq_true rfl) ⟨(Nat.le_of_ble_eq_true rfl), (Nat.le_of_ble_eq_true rfl)⟩ dX2_init_9 ?_
  intro _ hu9
  refine z_re [1, 0] [[(o, .inr (2, [.int 0, .int 0, .int 0, .int 0, .null, .null, .null, .null]))], [(q5, .inr (16, [.int 0, .ref (zEE D), .int (nI 0)]))]] rfl rfl ?_
  refine z_eq (lv₂ := [(0, .ref o)]) (st₂ := [.ref q5, .ref o]) ?_ rfl rfl
  refine z_putF (pc := 12) gX hAX hnm 0 rfl (ci := 2) (C := RX2) (T := TX2) (N := 8) rfl in_X2 tyX2 tyX2_ok nmX2 4 (by decide) q157 (fun _ h => h) rfl rfl (v := .ref q5) rfl rfl (Nat.le_of_ble_eq_true rfl) [[(o, .inr (2, [.int 0, .int 0, .int 0, .int 0, .ref q5, .null, .null, .null]))], [(q5, .inr (16, [.int 0, .ref (zEE D), .int (nI 0)]))]] rfl dX2_init_12 ?_
  refine z_aload_n (pc := 15) gX 0 dX2_init_15 rfl rfl ?_
  refine z_bipush (pc := 16) gX 7 dX2_init_16 (by decide) ?_
  refine z_top (nI 7) rfl ?_
  refine z_newa (pc := 18) gX hAX (atype := .int) (ty := .int) 0 rfl rfl (by intro C h; cases h) q190 (7, .inl (fun _ => 0)) (fun _ => rfl) (by decide) (by decide) (by decide) (by decide) dX2_init_18 (fun q18 => ?_)
  refine z_norm [[(o, .inr (2, [.int 0, .int 0, .int 0, .int 0, .ref q5, .null, .null, .null]))], [(q5, .inr (16, [.int 0, .ref (zEE D), .int (nI 0)]))], [(q18, .inl (D.1 100, 7, .inl (fun _ => 0)))]] 2 10 ?_ rfl rfl rfl
  refine z_putF (pc := 20) gX hAX hnm 0 rfl (ci := 2) (C := RX2) (T := TX2) (N := 8) rfl in_X2 tyX2 tyX2_ok nmX2 5 (by decide) q161 (fun _ h => h) rfl rfl (v := .ref q18) rfl rfl (Nat.le_of_ble_eq_true rfl) [[(o, .inr (2, [.int 0, .int 0, .int 0, .int 0, .ref q5, .ref q18, .null, .null]))], [(q5, .inr (16, [.int 0, .ref (zEE D), .int (nI 0)]))], [(q18, .inl (D.1 100, 7, .inl (fun _ => 0)))]] rfl dX2_init_20 ?_
  refine z_aload_n (pc := 23) gX 0 dX2_init_23 rfl rfl ?_
  refine z_bipush (pc := 24) gX 7 dX2_init_24 (by decide) ?_
  refine z_top (nI 7) rfl ?_
  refine z_newa (pc := 26) gX hAX (atype := .int) (ty := .int) 0 rfl rfl (by intro C h; cases h) q190 (7, .inl (fun _ => 0)) (fun _ => rfl) (by decide) (by decide) (by decide) (by decide) dX2_init_26 (fun q26 => ?_)
  refine z_norm [[(o, .inr (2, [.int 0, .int 0, .int 0, .int 0, .ref q5, .ref q18, .null, .null]))], [(q5, .inr (16, [.int 0, .ref (zEE D), .int (nI 0)]))], [(q18, .inl (D.1 100, 7, .inl (fun _ => 0)))], [(q26, .inl (D.1 100, 7, .inl (fun _ => 0)))]] 3 17 ?_ rfl rfl rfl
  refine z_putF (pc := 28) gX hAX hnm 0 rfl (ci := 2) (C := RX2) (T := TX2) (N := 8) rfl in_X2 tyX2 tyX2_ok nmX2 6 (by decide) q167 (fun _ h => h) rfl rfl (v := .ref q26) rfl rfl (Nat.le_of_ble_eq_true rfl) [[(o, .inr (2, [.int 0, .int 0, .int 0, .int 0, .ref q5, .ref q18, .ref q26, .null]))], [(q5, .inr (16, [.int 0, .ref (zEE D), .int (nI 0)]))], [(q18, .inl (D.1 100, 7, .inl (fun _ => 0)))], [(q26, .inl (D.1 100, 7, .inl (fun _ => 0)))]] rfl dX2_init_28 ?_
  refine z_aload_n (pc := 31) gX 0 dX2_init_31 rfl rfl ?_
  refine z_bipush (pc := 32) gX 7 dX2_init_32 (by decide) ?_
  refine z_top (nI 7) rfl ?_
  refine z_newa (pc := 34) gX hAX (atype := .int) (ty := .int) 0 rfl rfl (by intro C h; cases h) q190 (7, .inl (fun _ => 0)) (fun _ => rfl) (by decide) (by decide) (by decide) (by decide) dX2_init_34 (fun q34 => ?_)
  refine z_norm [[(o, .inr (2, [.int 0, .int 0, .int 0, .int 0, .ref q5, .ref q18, .ref q26, .null]))], [(q5, .inr (16, [.int 0, .ref (zEE D), .int (nI 0)]))], [(q18, .inl (D.1 100, 7, .inl (fun _ => 0)))], [(q26, .inl (D.1 100, 7, .inl (fun _ => 0)))], [(q34, .inl (D.1 100, 7, .inl (fun _ => 0)))]] 4 24 ?_ rfl rfl rfl
  refine z_putF (pc := 36) gX hAX hnm 0 rfl (ci := 2) (C := RX2) (T := TX2) (N := 8) rfl in_X2 tyX2 tyX2_ok nmX2 7 (by decide) q172 (fun _ h => h) rfl rfl (v := .ref q34) rfl rfl (Nat.le_of_ble_eq_true rfl) [[(o, .inr (2, [.int 0, .int 0, .int 0, .int 0, .ref q5, .ref q18, .ref q26, .ref q34]))], [(q5, .inr (16, [.int 0, .ref (zEE D), .int (nI 0)]))], [(q18, .inl (D.1 100, 7, .inl (fun _ => 0)))], [(q26, .inl (D.1 100, 7, .inl (fun _ => 0)))], [(q34, .inl (D.1 100, 7, .inl (fun _ => 0)))]] rfl dX2_init_36 ?_
  exact z_vret gX hQX (q5, q18, q26, q34) trivial rfl rfl (by first | decide | omega) (by first | decide | omega) dX2_init_39
theorem hd_X2_init : zHd yX2_init 0 := by unfold zHd; decide +kernel

set_option maxHeartbeats 4000000 in
theorem met_X7_init_7 (l : Launch) (D : va_G) (B0 : Nat) (A : Nat → Prop) (o : Nat) (r : Nat)  : Met l yX7_init (ws_ yX7_init cX7_init 2 none) (zRm 2 0 0) (va_Pc [.ref o, .int (nI r)] (zPre B0 D A [[(o, .inr (7, [.int 0]))]])) (zQ (S := Unit) (fun _ => True) (fun _ => none) (fun _ => [[(o, .inr (7, [.int (nI r)]))]]) D A) 0 0 A := by
  refine z_entry (by decide +kernel) (Nat.le_of_ble_eq_true rfl) (fun pX eX sX mX argsX blX mtX cX QX hQX gX hAX hnm => ?_)
  refine z_eq (lv₂ := [(0, .ref o), (1, .int (nI r))]) (st₂ := []) ?_ rfl rfl
  refine z_aload_n (pc := 0) gX 0 dX7_init_0 rfl rfl ?_
  refine z_objInit (pc := 1) gX q677 q_oi2 q_oi3 dX7_init_1 (Nat.le_of_ble_eq_true rfl) (Nat.le_of_ble_eq_true rfl) ?_
  refine z_aload_n (pc := 4) gX 0 dX7_init_4 rfl rfl ?_
  refine z_iload_n (pc := 5) gX 1 dX7_init_5 rfl rfl ?_
  refine z_putF (pc := 6) gX hAX hnm 0 rfl (ci := 7) (C := RX8) (T := TX8) (N := 1) rfl in_X8 tyX8 tyX8_ok nmX8 0 (by decide) q678 (fun _ h => h) rfl rfl (v := .int (nI r)) rfl rfl (Nat.le_of_ble_eq_true rfl) [[(o, .inr (7, [.int (nI r)]))]] rfl dX7_init_6 ?_
  exact z_vret gX hQX () trivial rfl rfl (by first | decide | omega) (by first | decide | omega) dX7_init_9
theorem hd_X7_init : zHd yX7_init 1 := by unfold zHd; decide +kernel

set_option maxHeartbeats 4000000 in
theorem met_X7_init_8 (l : Launch) (D : va_G) (B0 : Nat) (A : Nat → Prop) (o : Nat) (r : Nat)  : Met l yX7_init (ws_ yX7_init cX7_init 2 none) (zRm 2 0 0) (va_Pc [.ref o, .int (nI r)] (zPre B0 D A [[(o, .inr (8, [.int 0]))]])) (zQ (S := Unit) (fun _ => True) (fun _ => none) (fun _ => [[(o, .inr (8, [.int (nI r)]))]]) D A) 0 0 A := by
  refine z_entry (by decide +kernel) (Nat.le_of_ble_eq_true rfl) (fun pX eX sX mX argsX blX mtX cX QX hQX gX hAX hnm => ?_)
  refine z_eq (lv₂ := [(0, .ref o), (1, .int (nI r))]) (st₂ := []) ?_ rfl rfl
  refine z_aload_n (pc := 0) gX 0 dX7_init_0 rfl rfl ?_
  refine z_objInit (pc := 1) gX q677 q_oi2 q_oi3 dX7_init_1 (Nat.le_of_ble_eq_true rfl) (Nat.le_of_ble_eq_true rfl) ?_
  refine z_aload_n (pc := 4) gX 0 dX7_init_4 rfl rfl ?_
  refine z_iload_n (pc := 5) gX 1 dX7_init_5 rfl rfl ?_
  refine z_putF (pc := 6) gX hAX hnm 0 rfl (ci := 8) (C := RX9) (T := TX9) (N := 1) rfl in_X9 tyX9 tyX9_ok nmX9 0 (by decide) q678 (fun _ h => h) rfl rfl (v := .int (nI r)) rfl rfl (Nat.le_of_ble_eq_true rfl) [[(o, .inr (8, [.int (nI r)]))]] rfl dX7_init_6 ?_
  exact z_vret gX hQX () trivial rfl rfl (by first | decide | omega) (by first | decide | omega) dX7_init_9

set_option maxHeartbeats 4000000 in
theorem met_X7_init_9 (l : Launch) (D : va_G) (B0 : Nat) (A : Nat → Prop) (o : Nat) (r : Nat)  : Met l yX7_init (ws_ yX7_init cX7_init 2 none) (zRm 2 0 0) (va_Pc [.ref o, .int (nI r)] (zPre B0 D A [[(o, .inr (9, [.int 0]))]])) (zQ (S := Unit) (fun _ => True) (fun _ => none) (fun _ => [[(o, .inr (9, [.int (nI r)]))]]) D A) 0 0 A := by
  refine z_entry (by decide +kernel) (Nat.le_of_ble_eq_true rfl) (fun pX eX sX mX argsX blX mtX cX QX hQX gX hAX hnm => ?_)
  refine z_eq (lv₂ := [(0, .ref o), (1, .int (nI r))]) (st₂ := []) ?_ rfl rfl
  refine z_aload_n (pc := 0) gX 0 dX7_init_0 rfl rfl ?_
  refine z_objInit (pc := 1) gX q677 q_oi2 q_oi3 dX7_init_1 (Nat.le_of_ble_eq_true rfl) (Nat.le_of_ble_eq_true rfl) ?_
  refine z_aload_n (pc := 4) gX 0 dX7_init_4 rfl rfl ?_
  refine z_iload_n (pc := 5) gX 1 dX7_init_5 rfl rfl ?_
  refine z_putF (pc := 6) gX hAX hnm 0 rfl (ci := 9) (C := RX10) (T := TX10) (N := 1) rfl in_X10 tyX10 tyX10_ok nmX10 0 (by decide) q678 (fun _ h => h) rfl rfl (v := .int (nI r)) rfl rfl (Nat.le_of_ble_eq_true rfl) [[(o, .inr (9, [.int (nI r)]))]] rfl dX7_init_6 ?_
  exact z_vret gX hQX () trivial rfl rfl (by first | decide | omega) (by first | decide | omega) dX7_init_9

set_option maxHeartbeats 4000000 in
theorem met_X7_init_10 (l : Launch) (D : va_G) (B0 : Nat) (A : Nat → Prop) (o : Nat) (r : Nat)  : Met l yX7_init (ws_ yX7_init cX7_init 2 none) (zRm 2 0 0) (va_Pc [.ref o, .int (nI r)] (zPre B0 D A [[(o, .inr (10, [.int 0]))]])) (zQ (S := Unit) (fun _ => True) (fun _ => none) (fun _ => [[(o, .inr (10, [.int (nI r)]))]]) D A) 0 0 A := by
  refine z_entry (by decide +kernel) (Nat.le_of_ble_eq_true rfl) (fun pX eX sX mX argsX blX mtX cX QX hQX gX hAX hnm => ?_)
  refine z_eq (lv₂ := [(0, .ref o), (1, .int (nI r))]) (st₂ := []) ?_ rfl rfl
  refine z_aload_n (pc := 0) gX 0 dX7_init_0 rfl rfl ?_
  refine z_objInit (pc := 1) gX q677 q_oi2 q_oi3 dX7_init_1 (Nat.le_of_ble_eq_true rfl) (Nat.le_of_ble_eq_true rfl) ?_
  refine z_aload_n (pc := 4) gX 0 dX7_init_4 rfl rfl ?_
  refine z_iload_n (pc := 5) gX 1 dX7_init_5 rfl rfl ?_
  refine z_putF (pc := 6) gX hAX hnm 0 rfl (ci := 10) (C := RX11) (T := TX11) (N := 1) rfl in_X11 tyX11 tyX11_ok nmX11 0 (by decide) q678 (fun _ h => h) rfl rfl (v := .int (nI r)) rfl rfl (Nat.le_of_ble_eq_true rfl) [[(o, .inr (10, [.int (nI r)]))]] rfl dX7_init_6 ?_
  exact z_vret gX hQX () trivial rfl rfl (by first | decide | omega) (by first | decide | omega) dX7_init_9

set_option maxHeartbeats 4000000 in
theorem met_X7_init_11 (l : Launch) (D : va_G) (B0 : Nat) (A : Nat → Prop) (o : Nat) (r : Nat)  : Met l yX7_init (ws_ yX7_init cX7_init 2 none) (zRm 2 0 0) (va_Pc [.ref o, .int (nI r)] (zPre B0 D A [[(o, .inr (11, [.int 0]))]])) (zQ (S := Unit) (fun _ => True) (fun _ => none) (fun _ => [[(o, .inr (11, [.int (nI r)]))]]) D A) 0 0 A := by
  refine z_entry (by decide +kernel) (Nat.le_of_ble_eq_true rfl) (fun pX eX sX mX argsX blX mtX cX QX hQX gX hAX hnm => ?_)
  refine z_eq (lv₂ := [(0, .ref o), (1, .int (nI r))]) (st₂ := []) ?_ rfl rfl
  refine z_aload_n (pc := 0) gX 0 dX7_init_0 rfl rfl ?_
  refine z_objInit (pc := 1) gX q677 q_oi2 q_oi3 dX7_init_1 (Nat.le_of_ble_eq_true rfl) (Nat.le_of_ble_eq_true rfl) ?_
  refine z_aload_n (pc := 4) gX 0 dX7_init_4 rfl rfl ?_
  refine z_iload_n (pc := 5) gX 1 dX7_init_5 rfl rfl ?_
  refine z_putF (pc := 6) gX hAX hnm 0 rfl (ci := 11) (C := RX12) (T := TX12) (N := 1) rfl in_X12 tyX12 tyX12_ok nmX12 0 (by decide) q678 (fun _ h => h) rfl rfl (v := .int (nI r)) rfl rfl (Nat.le_of_ble_eq_true rfl) [[(o, .inr (11, [.int (nI r)]))]] rfl dX7_init_6 ?_
  exact z_vret gX hQX () trivial rfl rfl (by first | decide | omega) (by first | decide | omega) dX7_init_9

set_option maxHeartbeats 4000000 in
theorem met_X8_init_7 (l : Launch) (D : va_G) (B0 : Nat) (A : Nat → Prop) (o : Nat) (r : Nat)  : Met l yX8_init (ws_ yX8_init cX8_init 2 none) (zRm 3 0 0) (va_Pc [.ref o, .int (nI r)] (zPre B0 D A [[(o, .inr (7, [.int 0]))]])) (zQ (S := Unit) (fun _ => True) (fun _ => none) (fun _ => [[(o, .inr (7, [.int (nI r)]))]]) D A) 0 0 A := by
  refine z_entry (by decide +kernel) (Nat.le_of_ble_eq_true rfl) (fun pX eX sX mX argsX blX mtX cX QX hQX gX hAX hnm => ?_)
  refine z_eq (lv₂ := [(0, .ref o), (1, .int (nI r))]) (st₂ := []) ?_ rfl rfl
  refine z_aload_n (pc := 0) gX 0 dX8_init_0 rfl rfl ?_
  refine z_iload_n (pc := 1) gX 1 dX8_init_1 rfl rfl ?_
  refine z_cMI (pc := 2) gX hAX [.int (nI r)] [] [0] [] (fun A1 => met_X7_init_7 l D B0 A1 o r ) q674 q675 q72 q676 rfl hd_X7_init ⟨rfl, rfl⟩ ⟨(Nat.le_of_ble_eq_true rfl), (Nat.le_of_ble_eq_true rfl)⟩ rfl rfl rfl rfl rfl (Nat.le_of_ble_eq_true rfl) ⟨(Nat.le_of_ble_eq_true rfl), (Nat.le_of_ble_eq_true rfl)⟩ dX8_init_2 ?_
  intro _ hu2
  refine z_re [0] [[(o, .inr (7, [.int (nI r)]))]] rfl rfl ?_
  refine z_eq (lv₂ := [(0, .ref o), (1, .int (nI r))]) (st₂ := []) ?_ rfl rfl
  exact z_vret gX hQX () trivial rfl rfl (by first | decide | omega) (by first | decide | omega) dX8_init_5
theorem hd_X8_init : zHd yX8_init 1 := by unfold zHd; decide +kernel

set_option maxHeartbeats 4000000 in
theorem met_X8_init_8 (l : Launch) (D : va_G) (B0 : Nat) (A : Nat → Prop) (o : Nat) (r : Nat)  : Met l yX8_init (ws_ yX8_init cX8_init 2 none) (zRm 3 0 0) (va_Pc [.ref o, .int (nI r)] (zPre B0 D A [[(o, .inr (8, [.int 0]))]])) (zQ (S := Unit) (fun _ => True) (fun _ => none) (fun _ => [[(o, .inr (8, [.int (nI r)]))]]) D A) 0 0 A := by
  refine z_entry (by decide +kernel) (Nat.le_of_ble_eq_true rfl) (fun pX eX sX mX argsX blX mtX cX QX hQX gX hAX hnm => ?_)
  refine z_eq (lv₂ := [(0, .ref o), (1, .int (nI r))]) (st₂ := []) ?_ rfl rfl
  refine z_aload_n (pc := 0) gX 0 dX8_init_0 rfl rfl ?_
  refine z_iload_n (pc := 1) gX 1 dX8_init_1 rfl rfl ?_
  refine z_cMI (pc := 2) gX hAX [.int (nI r)] [] [0] [] (fun A1 => met_X7_init_8 l D B0 A1 o r ) q674 q675 q72 q676 rfl hd_X7_init ⟨rfl, rfl⟩ ⟨(Nat.le_of_ble_eq_true rfl), (Nat.le_of_ble_eq_true rfl)⟩ rfl rfl rfl rfl rfl (Nat.le_of_ble_eq_true rfl) ⟨(Nat.le_of_ble_eq_true rfl), (Nat.le_of_ble_eq_true rfl)⟩ dX8_init_2 ?_
  intro _ hu2
  refine z_re [0] [[(o, .inr (8, [.int (nI r)]))]] rfl rfl ?_
  refine z_eq (lv₂ := [(0, .ref o), (1, .int (nI r))]) (st₂ := []) ?_ rfl rfl
  exact z_vret gX hQX () trivial rfl rfl (by first | decide | omega) (by first | decide | omega) dX8_init_5

set_option maxHeartbeats 4000000 in
theorem met_X8_init_9 (l : Launch) (D : va_G) (B0 : Nat) (A : Nat → Prop) (o : Nat) (r : Nat)  : Met l yX8_init (ws_ yX8_init cX8_init 2 none) (zRm 3 0 0) (va_Pc [.ref o, .int (nI r)] (zPre B0 D A [[(o, .inr (9, [.int 0]))]])) (zQ (S := Unit) (fun _ => True) (fun _ => none) (fun _ => [[(o, .inr (9, [.int (nI r)]))]]) D A) 0 0 A := by
  refine z_entry (by decide +kernel) (Nat.le_of_ble_eq_true rfl) (fun pX eX sX mX argsX blX mtX cX QX hQX gX hAX hnm => ?_)
  refine z_eq (lv₂ := [(0, .ref o), (1, .int (nI r))]) (st₂ := []) ?_ rfl rfl
  refine z_aload_n (pc := 0) gX 0 dX8_init_0 rfl rfl ?_
  refine z_iload_n (pc := 1) gX 1 dX8_init_1 rfl rfl ?_
  refine z_cMI (pc := 2) gX hAX [.int (nI r)] [] [0] [] (fun A1 => met_X7_init_9 l D B0 A1 o r ) q674 q675 q72 q676 rfl hd_X7_init ⟨rfl, rfl⟩ ⟨(Nat.le_of_ble_eq_true rfl), (Nat.le_of_ble_eq_true rfl)⟩ rfl rfl rfl rfl rfl (Nat.le_of_ble_eq_true rfl) ⟨(Nat.le_of_ble_eq_true rfl), (Nat.le_of_ble_eq_true rfl)⟩ dX8_init_2 ?_
  intro _ hu2
  refine z_re [0] [[(o, .inr (9, [.int (nI r)]))]] rfl rfl ?_
  refine z_eq (lv₂ := [(0, .ref o), (1, .int (nI r))]) (st₂ := []) ?_ rfl rfl
  exact z_vret gX hQX () trivial rfl rfl (by first | decide | omega) (by first | decide | omega) dX8_init_5

set_option maxHeartbeats 4000000 in
theorem met_X9_init_8 (l : Launch) (D : va_G) (B0 : Nat) (A : Nat → Prop) (o : Nat) (r : Nat)  : Met l yX9_init (ws_ yX9_init cX9_init 2 none) (zRm 4 0 0) (va_Pc [.ref o, .int (nI r)] (zPre B0 D A [[(o, .inr (8, [.int 0]))]])) (zQ (S := Unit) (fun _ => True) (fun _ => none) (fun _ => [[(o, .inr (8, [.int (nI r)]))]]) D A) 0 0 A := by
  refine z_entry (by decide +kernel) (Nat.le_of_ble_eq_true rfl) (fun pX eX sX mX argsX blX mtX cX QX hQX gX hAX hnm => ?_)
  refine z_eq (lv₂ := [(0, .ref o), (1, .int (nI r))]) (st₂ := []) ?_ rfl rfl
  refine z_aload_n (pc := 0) gX 0 dX9_init_0 rfl rfl ?_
  refine z_iload_n (pc := 1) gX 1 dX9_init_1 rfl rfl ?_
  refine z_cMI (pc := 2) gX hAX [.int (nI r)] [] [0] [] (fun A1 => met_X8_init_8 l D B0 A1 o r ) q687 q672 q73 q673 rfl hd_X8_init ⟨rfl, rfl⟩ ⟨(Nat.le_of_ble_eq_true rfl), (Nat.le_of_ble_eq_true rfl)⟩ rfl rfl rfl rfl rfl (Nat.le_of_ble_eq_true rfl) ⟨(Nat.le_of_ble_eq_true rfl), (Nat.le_of_ble_eq_true rfl)⟩ dX9_init_2 ?_
  intro _ hu2
  refine z_re [0] [[(o, .inr (8, [.int (nI r)]))]] rfl rfl ?_
  refine z_eq (lv₂ := [(0, .ref o), (1, .int (nI r))]) (st₂ := []) ?_ rfl rfl
  exact z_vret gX hQX () trivial rfl rfl (by first | decide | omega) (by first | decide | omega) dX9_init_5
theorem hd_X9_init : zHd yX9_init 1 := by unfold zHd; decide +kernel

set_option maxHeartbeats 4000000 in
theorem met_X10_init_9 (l : Launch) (D : va_G) (B0 : Nat) (A : Nat → Prop) (o : Nat) (r : Nat)  : Met l yX10_init (ws_ yX10_init cX10_init 2 none) (zRm 4 0 0) (va_Pc [.ref o, .int (nI r)] (zPre B0 D A [[(o, .inr (9, [.int 0]))]])) (zQ (S := Unit) (fun _ => True) (fun _ => none) (fun _ => [[(o, .inr (9, [.int (nI r)]))]]) D A) 0 0 A := by
  refine z_entry (by decide +kernel) (Nat.le_of_ble_eq_true rfl) (fun pX eX sX mX argsX blX mtX cX QX hQX gX hAX hnm => ?_)
  refine z_eq (lv₂ := [(0, .ref o), (1, .int (nI r))]) (st₂ := []) ?_ rfl rfl
  refine z_aload_n (pc := 0) gX 0 dX10_init_0 rfl rfl ?_
  refine z_iload_n (pc := 1) gX 1 dX10_init_1 rfl rfl ?_
  refine z_cMI (pc := 2) gX hAX [.int (nI r)] [] [0] [] (fun A1 => met_X8_init_9 l D B0 A1 o r ) q695 q672 q73 q673 rfl hd_X8_init ⟨rfl, rfl⟩ ⟨(Nat.le_of_ble_eq_true rfl), (Nat.le_of_ble_eq_true rfl)⟩ rfl rfl rfl rfl rfl (Nat.le_of_ble_eq_true rfl) ⟨(Nat.le_of_ble_eq_true rfl), (Nat.le_of_ble_eq_true rfl)⟩ dX10_init_2 ?_
  intro _ hu2
  refine z_re [0] [[(o, .inr (9, [.int (nI r)]))]] rfl rfl ?_
  refine z_eq (lv₂ := [(0, .ref o), (1, .int (nI r))]) (st₂ := []) ?_ rfl rfl
  exact z_vret gX hQX () trivial rfl rfl (by first | decide | omega) (by first | decide | omega) dX10_init_5
theorem hd_X10_init : zHd yX10_init 1 := by unfold zHd; decide +kernel

set_option maxHeartbeats 4000000 in
theorem met_X11_init_10 (l : Launch) (D : va_G) (B0 : Nat) (A : Nat → Prop) (o : Nat) (r : Nat)  : Met l yX11_init (ws_ yX11_init cX11_init 2 none) (zRm 3 0 0) (va_Pc [.ref o, .int (nI r)] (zPre B0 D A [[(o, .inr (10, [.int 0]))]])) (zQ (S := Unit) (fun _ => True) (fun _ => none) (fun _ => [[(o, .inr (10, [.int (nI r)]))]]) D A) 0 0 A := by
  refine z_entry (by decide +kernel) (Nat.le_of_ble_eq_true rfl) (fun pX eX sX mX argsX blX mtX cX QX hQX gX hAX hnm => ?_)
  refine z_eq (lv₂ := [(0, .ref o), (1, .int (nI r))]) (st₂ := []) ?_ rfl rfl
  refine z_aload_n (pc := 0) gX 0 dX11_init_0 rfl rfl ?_
  refine z_iload_n (pc := 1) gX 1 dX11_init_1 rfl rfl ?_
  refine z_cMI (pc := 2) gX hAX [.int (nI r)] [] [0] [] (fun A1 => met_X7_init_10 l D B0 A1 o r ) q703 q675 q72 q676 rfl hd_X7_init ⟨rfl, rfl⟩ ⟨(Nat.le_of_ble_eq_true rfl), (Nat.le_of_ble_eq_true rfl)⟩ rfl rfl rfl rfl rfl (Nat.le_of_ble_eq_true rfl) ⟨(Nat.le_of_ble_eq_true rfl), (Nat.le_of_ble_eq_true rfl)⟩ dX11_init_2 ?_
  intro _ hu2
  refine z_re [0] [[(o, .inr (10, [.int (nI r)]))]] rfl rfl ?_
  refine z_eq (lv₂ := [(0, .ref o), (1, .int (nI r))]) (st₂ := []) ?_ rfl rfl
  exact z_vret gX hQX () trivial rfl rfl (by first | decide | omega) (by first | decide | omega) dX11_init_5
theorem hd_X11_init : zHd yX11_init 1 := by unfold zHd; decide +kernel

set_option maxHeartbeats 4000000 in
theorem met_X11_init_11 (l : Launch) (D : va_G) (B0 : Nat) (A : Nat → Prop) (o : Nat) (r : Nat)  : Met l yX11_init (ws_ yX11_init cX11_init 2 none) (zRm 3 0 0) (va_Pc [.ref o, .int (nI r)] (zPre B0 D A [[(o, .inr (11, [.int 0]))]])) (zQ (S := Unit) (fun _ => True) (fun _ => none) (fun _ => [[(o, .inr (11, [.int (nI r)]))]]) D A) 0 0 A := by
  refine z_entry (by decide +kernel) (Nat.le_of_ble_eq_true rfl) (fun pX eX sX mX argsX blX mtX cX QX hQX gX hAX hnm => ?_)
  refine z_eq (lv₂ := [(0, .ref o), (1, .int (nI r))]) (st₂ := []) ?_ rfl rfl
  refine z_aload_n (pc := 0) gX 0 dX11_init_0 rfl rfl ?_
  refine z_iload_n (pc := 1) gX 1 dX11_init_1 rfl rfl ?_
  refine z_cMI (pc := 2) gX hAX [.int (nI r)] [] [0] [] (fun A1 => met_X7_init_11 l D B0 A1 o r ) q703 q675 q72 q676 rfl hd_X7_init ⟨rfl, rfl⟩ ⟨(Nat.le_of_ble_eq_true rfl), (Nat.le_of_ble_eq_true rfl)⟩ rfl rfl rfl rfl rfl (Nat.le_of_ble_eq_true rfl) ⟨(Nat.le_of_ble_eq_true rfl), (Nat.le_of_ble_eq_true rfl)⟩ dX11_init_2 ?_
  intro _ hu2
  refine z_re [0] [[(o, .inr (11, [.int (nI r)]))]] rfl rfl ?_
  refine z_eq (lv₂ := [(0, .ref o), (1, .int (nI r))]) (st₂ := []) ?_ rfl rfl
  exact z_vret gX hQX () trivial rfl rfl (by first | decide | omega) (by first | decide | omega) dX11_init_5

set_option maxHeartbeats 4000000 in
theorem met_X12_init_11 (l : Launch) (D : va_G) (B0 : Nat) (A : Nat → Prop) (o : Nat) (r : Nat)  : Met l yX12_init (ws_ yX12_init cX12_init 2 none) (zRm 4 0 0) (va_Pc [.ref o, .int (nI r)] (zPre B0 D A [[(o, .inr (11, [.int 0]))]])) (zQ (S := Unit) (fun _ => True) (fun _ => none) (fun _ => [[(o, .inr (11, [.int (nI r)]))]]) D A) 0 0 A := by
  refine z_entry (by decide +kernel) (Nat.le_of_ble_eq_true rfl) (fun pX eX sX mX argsX blX mtX cX QX hQX gX hAX hnm => ?_)
  refine z_eq (lv₂ := [(0, .ref o), (1, .int (nI r))]) (st₂ := []) ?_ rfl rfl
  refine z_aload_n (pc := 0) gX 0 dX12_init_0 rfl rfl ?_
  refine z_iload_n (pc := 1) gX 1 dX12_init_1 rfl rfl ?_
  refine z_cMI (pc := 2) gX hAX [.int (nI r)] [] [0] [] (fun A1 => met_X11_init_11 l D B0 A1 o r ) q711 q701 q76 q702 rfl hd_X11_init ⟨rfl, rfl⟩ ⟨(Nat.le_of_ble_eq_true rfl), (Nat.le_of_ble_eq_true rfl)⟩ rfl rfl rfl rfl rfl (Nat.le_of_ble_eq_true rfl) ⟨(Nat.le_of_ble_eq_true rfl), (Nat.le_of_ble_eq_true rfl)⟩ dX12_init_2 ?_
  intro _ hu2
  refine z_re [0] [[(o, .inr (11, [.int (nI r)]))]] rfl rfl ?_
  refine z_eq (lv₂ := [(0, .ref o), (1, .int (nI r))]) (st₂ := []) ?_ rfl rfl
  exact z_vret gX hQX () trivial rfl rfl (by first | decide | omega) (by first | decide | omega) dX12_init_5
theorem hd_X12_init : zHd yX12_init 1 := by unfold zHd; decide +kernel

set_option maxHeartbeats 4000000 in
theorem met_X0_riderBy (l : Launch) (D : va_G) (B0 : Nat) (A : Nat → Prop) (k : Nat) (r : Nat) (hk1 : 1 ≤ k) (hk5 : k ≤ 5) : Met l yX0_riderBy (ws_ yX0_riderBy cX0_riderBy 2 (some (.object "StepRiders$Rider"))) (zRm 5 1 1) (va_Pc [.int (nI k), .int (nI r)] (zPre B0 D A [])) (zQ (S := Nat) (fun u => (fun (q : Nat) => True) u) (fun u => (fun (q : Nat) => some (.ref q)) u) (fun u => (fun (q : Nat) => [[(q, .inr (6 + k, [.int (nI r)]))]]) u) D A) 1 1 A := by
  refine z_entry (by decide +kernel) (Nat.le_of_ble_eq_true rfl) (fun pX eX sX mX argsX blX mtX cX QX hQX gX hAX hnm => ?_)
  refine z_eq (lv₂ := [(0, .int (nI k)), (1, .int (nI r))]) (st₂ := []) ?_ rfl rfl
  rcases five hk1 hk5 with rfl | rfl | rfl | rfl | rfl
  · skip
    refine z_iload_n (pc := 0) gX 0 dX0_riderBy_0 rfl rfl ?_
    refine z_tableIn (pc := 1) gX 32 dX0_riderBy_1 (by decide) (by decide) (by rfl) (by decide) ?_
    refine z_new (pc := 32) gX hAX (ci := 7) (C := RX8) (T := TX8) (N := 1) rfl in_X8 tyX8 tyX8_ok q669 q670 q73 [.int 0] (by decide +kernel) (by decide) (by decide) dX0_riderBy_32 (fun q32 => ?_)
    refine z_norm [[(q32, .inr (7, [.int 0]))]] 1 1 ?_ rfl rfl rfl
    refine z_dup (pc := 35) gX dX0_riderBy_35 rfl ?_
    refine z_iload_n (pc := 36) gX 1 dX0_riderBy_36 rfl rfl ?_
    refine z_cMI (pc := 37) gX hAX [.int (nI r)] [.ref q32] [0] [] (fun A1 => met_X8_init_7 l D B0 A1 q32 r ) q671 q672 q73 q673 rfl hd_X8_init ⟨rfl, rfl⟩ ⟨(Nat.le_of_ble_eq_true rfl), (Nat.le_of_ble_eq_true rfl)⟩ rfl rfl rfl rfl rfl (Nat.le_of_ble_eq_true rfl) ⟨(Nat.le_of_ble_eq_true rfl), (Nat.le_of_ble_eq_true rfl)⟩ dX0_riderBy_37 ?_
    intro _ hu37
    refine z_re [0] [[(q32, .inr (7, [.int (nI r)]))]] rfl rfl ?_
    refine z_eq (lv₂ := [(0, .int (nI 1)), (1, .int (nI r))]) (st₂ := [.ref q32]) ?_ rfl rfl
    exact z_aret gX hQX (by first | exact Or.inl ⟨_, rfl⟩ | exact Or.inr ⟨_, rfl⟩) (Or.inr ⟨_, rfl⟩) q32 trivial rfl rfl (by first | decide | omega) (by first | decide | omega) dX0_riderBy_40
  · skip
    refine z_iload_n (pc := 0) gX 0 dX0_riderBy_0 rfl rfl ?_
    refine z_tableIn (pc := 1) gX 41 dX0_riderBy_1 (by decide) (by decide) (by rfl) (by decide) ?_
    refine z_new (pc := 41) gX hAX (ci := 8) (C := RX9) (T := TX9) (N := 1) rfl in_X9 tyX9 tyX9_ok q682 q683 q74 [.int 0] (by decide +kernel) (by decide) (by decide) dX0_riderBy_41 (fun q41 => ?_)
    refine z_norm [[(q41, .inr (8, [.int 0]))]] 1 1 ?_ rfl rfl rfl
    refine z_dup (pc := 44) gX dX0_riderBy_44 rfl ?_
    refine z_iload_n (pc := 45) gX 1 dX0_riderBy_45 rfl rfl ?_
    refine z_cMI (pc := 46) gX hAX [.int (nI r)] [.ref q41] [0] [] (fun A1 => met_X9_init_8 l D B0 A1 q41 r ) q684 q685 q74 q686 rfl hd_X9_init ⟨rfl, rfl⟩ ⟨(Nat.le_of_ble_eq_true rfl), (Nat.le_of_ble_eq_true rfl)⟩ rfl rfl rfl rfl rfl (Nat.le_of_ble_eq_true rfl) ⟨(Nat.le_of_ble_eq_true rfl), (Nat.le_of_ble_eq_true rfl)⟩ dX0_riderBy_46 ?_
    intro _ hu46
    refine z_re [0] [[(q41, .inr (8, [.int (nI r)]))]] rfl rfl ?_
    refine z_eq (lv₂ := [(0, .int (nI 2)), (1, .int (nI r))]) (st₂ := [.ref q41]) ?_ rfl rfl
    exact z_aret gX hQX (by first | exact Or.inl ⟨_, rfl⟩ | exact Or.inr ⟨_, rfl⟩) (Or.inr ⟨_, rfl⟩) q41 trivial rfl rfl (by first | decide | omega) (by first | decide | omega) dX0_riderBy_49
  · skip
    refine z_iload_n (pc := 0) gX 0 dX0_riderBy_0 rfl rfl ?_
    refine z_tableIn (pc := 1) gX 50 dX0_riderBy_1 (by decide) (by decide) (by rfl) (by decide) ?_
    refine z_new (pc := 50) gX hAX (ci := 9) (C := RX10) (T := TX10) (N := 1) rfl in_X10 tyX10 tyX10_ok q690 q691 q75 [.int 0] (by decide +kernel) (by decide) (by decide) dX0_riderBy_50 (fun q50 => ?_)
    refine z_norm [[(q50, .inr (9, [.int 0]))]] 1 1 ?_ rfl rfl rfl
    refine z_dup (pc := 53) gX dX0_riderBy_53 rfl ?_
    refine z_iload_n (pc := 54) gX 1 dX0_riderBy_54 rfl rfl ?_
    refine z_cMI (pc := 55) gX hAX [.int (nI r)] [.ref q50] [0] [] (fun A1 => met_X10_init_9 l D B0 A1 q50 r ) q692 q693 q75 q694 rfl hd_X10_init ⟨rfl, rfl⟩ ⟨(Nat.le_of_ble_eq_true rfl), (Nat.le_of_ble_eq_true rfl)⟩ rfl rfl rfl rfl rfl (Nat.le_of_ble_eq_true rfl) ⟨(Nat.le_of_ble_eq_true rfl), (Nat.le_of_ble_eq_true rfl)⟩ dX0_riderBy_55 ?_
    intro _ hu55
    refine z_re [0] [[(q50, .inr (9, [.int (nI r)]))]] rfl rfl ?_
    refine z_eq (lv₂ := [(0, .int (nI 3)), (1, .int (nI r))]) (st₂ := [.ref q50]) ?_ rfl rfl
    exact z_aret gX hQX (by first | exact Or.inl ⟨_, rfl⟩ | exact Or.inr ⟨_, rfl⟩) (Or.inr ⟨_, rfl⟩) q50 trivial rfl rfl (by first | decide | omega) (by first | decide | omega) dX0_riderBy_58
  · skip
    refine z_iload_n (pc := 0) gX 0 dX0_riderBy_0 rfl rfl ?_
    refine z_tableIn (pc := 1) gX 59 dX0_riderBy_1 (by decide) (by decide) (by rfl) (by decide) ?_
    refine z_new (pc := 59) gX hAX (ci := 10) (C := RX11) (T := TX11) (N := 1) rfl in_X11 tyX11 tyX11_ok q698 q699 q76 [.int 0] (by decide +kernel) (by decide) (by decide) dX0_riderBy_59 (fun q59 => ?_)
    refine z_norm [[(q59, .inr (10, [.int 0]))]] 1 1 ?_ rfl rfl rfl
    refine z_dup (pc := 62) gX dX0_riderBy_62 rfl ?_
    refine z_iload_n (pc := 63) gX 1 dX0_riderBy_63 rfl rfl ?_
    refine z_cMI (pc := 64) gX hAX [.int (nI r)] [.ref q59] [0] [] (fun A1 => met_X11_init_10 l D B0 A1 q59 r ) q700 q701 q76 q702 rfl hd_X11_init ⟨rfl, rfl⟩ ⟨(Nat.le_of_ble_eq_true rfl), (Nat.le_of_ble_eq_true rfl)⟩ rfl rfl rfl rfl rfl (Nat.le_of_ble_eq_true rfl) ⟨(Nat.le_of_ble_eq_true rfl), (Nat.le_of_ble_eq_true rfl)⟩ dX0_riderBy_64 ?_
    intro _ hu64
    refine z_re [0] [[(q59, .inr (10, [.int (nI r)]))]] rfl rfl ?_
    refine z_eq (lv₂ := [(0, .int (nI 4)), (1, .int (nI r))]) (st₂ := [.ref q59]) ?_ rfl rfl
    exact z_aret gX hQX (by first | exact Or.inl ⟨_, rfl⟩ | exact Or.inr ⟨_, rfl⟩) (Or.inr ⟨_, rfl⟩) q59 trivial rfl rfl (by first | decide | omega) (by first | decide | omega) dX0_riderBy_67
  · skip
    refine z_iload_n (pc := 0) gX 0 dX0_riderBy_0 rfl rfl ?_
    refine z_tableOut (pc := 1) gX 68 dX0_riderBy_1 (by decide) (by decide) ?_
    refine z_new (pc := 68) gX hAX (ci := 11) (C := RX12) (T := TX12) (N := 1) rfl in_X12 tyX12 tyX12_ok q706 q707 q77 [.int 0] (by decide +kernel) (by decide) (by decide) dX0_riderBy_68 (fun q68 => ?_)
    refine z_norm [[(q68, .inr (11, [.int 0]))]] 1 1 ?_ rfl rfl rfl
    refine z_dup (pc := 71) gX dX0_riderBy_71 rfl ?_
    refine z_iload_n (pc := 72) gX 1 dX0_riderBy_72 rfl rfl ?_
    refine z_cMI (pc := 73) gX hAX [.int (nI r)] [.ref q68] [0] [] (fun A1 => met_X12_init_11 l D B0 A1 q68 r ) q708 q709 q77 q710 rfl hd_X12_init ⟨rfl, rfl⟩ ⟨(Nat.le_of_ble_eq_true rfl), (Nat.le_of_ble_eq_true rfl)⟩ rfl rfl rfl rfl rfl (Nat.le_of_ble_eq_true rfl) ⟨(Nat.le_of_ble_eq_true rfl), (Nat.le_of_ble_eq_true rfl)⟩ dX0_riderBy_73 ?_
    intro _ hu73
    refine z_re [0] [[(q68, .inr (11, [.int (nI r)]))]] rfl rfl ?_
    refine z_eq (lv₂ := [(0, .int (nI 5)), (1, .int (nI r))]) (st₂ := [.ref q68]) ?_ rfl rfl
    exact z_aret gX hQX (by first | exact Or.inl ⟨_, rfl⟩ | exact Or.inr ⟨_, rfl⟩) (Or.inr ⟨_, rfl⟩) q68 trivial rfl rfl (by first | decide | omega) (by first | decide | omega) dX0_riderBy_76
theorem hd_X0_riderBy : zHd yX0_riderBy 2 := by unfold zHd; decide +kernel

