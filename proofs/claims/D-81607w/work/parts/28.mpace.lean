set_option maxRecDepth 100000
/-! THE REFERENCE: pace -/
def dg (nn code j : Nat) : Nat := code / 3 ^ (nn - 1 - j) % 3
def rnC (n k : Nat) (c : Nat → Int32) (nn code : Nat) : Nat → (Nat → Int32)
  | 0 => c
  | j + 1 => mTick n k (upd (rnC n k c nn code j) 1 (nI (dg nn code j)))
def rnS (nn code : Nat) : Nat → Nat
  | 0 => 0
  | j + 1 => rnS nn code j + dg nn code j
theorem rnS_le (nn code : Nat) : ∀ j, rnS nn code j ≤ 2 * j
  | 0 => Nat.le_refl _
  | j + 1 => by
    have h1 := rnS_le nn code j
    have h2 : dg nn code j < 3 := Nat.mod_lt _ (by decide)
    simp only [rnS]; omega
theorem rnC_fr {n k : Nat} {c : Nat → Int32} {nn code : Nat} (hn : n ≤ 7) : ∀ j, ∀ q, 9 ≤ q → rnC n k c nn code j q = c q
  | 0, _, _ => rfl
  | j + 1, q, hq => by
    simp only [rnC]
    rw [FrT.tick hn q (by omega), pk_un (by omega)]
    exact rnC_fr hn j q hq
def pcS (n k : Nat) (c : Nat → Int32) (j nn code : Nat) (t : Int32 × Int32) : Int32 × Int32 := if rnC n k c nn code nn (2 + j) = 99 ∧ nI (rnS nn code nn) < t.2 then (nI code, nI (rnS nn code nn)) else t
def pcP (n k : Nat) (c : Nat → Int32) (j nn : Nat) : Nat → Int32 × Int32
  | 0 => (-1000000, 99)
  | code + 1 => pcS n k c j nn code (pcP n k c j nn code)
theorem pcP_nat (n k : Nat) (c : Nat → Int32) (j nn : Nat) : ∀ m, (pcP n k c j nn m).1 = -1000000 ∨ ∃ f, f < m ∧ (pcP n k c j nn m).1 = nI f
  | 0 => Or.inl rfl
  | m + 1 => by
    simp only [pcP, pcS]
    split
    · exact Or.inr ⟨m, by omega, rfl⟩
    · rcases pcP_nat n k c j nn m with h | ⟨f, h1, h2⟩
      · exact Or.inl h
      · exact Or.inr ⟨f, by omega, h2⟩
def mPace (n k : Nat) (c : Nat → Int32) (r m q : Int32) : Int32 :=
  if (mIn r 0 (c 17 - 1) && mIn m 1 6 && decide (-1 ≤ q)) = true then
    if (pcP n k c r.toNatClampNeg m.toNatClampNeg (3 ^ m.toNatClampNeg)).1 = -1000000 ∨ m ≤ q then -1000000
    else if q = -1 then (pcP n k c r.toNatClampNeg m.toNatClampNeg (3 ^ m.toNatClampNeg)).2
    else nI (dg m.toNatClampNeg (pcP n k c r.toNatClampNeg m.toNatClampNeg (3 ^ m.toNatClampNeg)).1.toNatClampNeg q.toNatClampNeg)
  else -1000001
theorem pow3 {i : Nat} (h : i ≤ 6) : 3 ^ i ≤ 729 := Nat.pow_le_pow_right (n := 3) (by decide) h
theorem pow3_s {nn j : Nat} (h : j < nn) : 3 ^ (nn - j) / 3 = 3 ^ (nn - (j + 1)) := by
  rw [show nn - j = (nn - (j + 1)) + 1 by omega, Nat.pow_succ, Nat.mul_div_cancel _ (by decide)]
theorem q_case {q : Int32} {nn : Nat} (h1 : -1 ≤ q) (h2 : q < nI nn) (hn : nn ≤ 6) : q = -1 ∨ ∃ k0, k0 < nn ∧ q = nI k0 := by
  have e1 := Int32.le_iff_toInt_le.mp h1
  have e2 := Int32.lt_iff_toInt_lt.mp h2
  rw [nI_toInt (by omega)] at e2
  have e3 : (-1 : Int32).toInt = -1 := by decide
  rw [e3] at e1
  rcases (show q.toInt = -1 ∨ 0 ≤ q.toInt by omega) with h | h
  · exact Or.inl (Int32.toInt_inj.mp (h.trans e3.symm))
  · obtain ⟨k0, hk0, rfl⟩ := nI_of (x := q) (by rw [Int32.lt_iff_toInt_lt]; simp; exact h)
    rw [nI_toInt hk0] at e2
    exact Or.inr ⟨k0, by omega, rfl⟩

set_option maxHeartbeats 4000000 in
theorem met_X4_pace (l : Launch) (D : va_G) (B0 : Nat) (A : Nat → Prop) (o : Nat) (ad : Nat → Nat) (x : Nat → Int32) (c : Nat → Int32) (th : Nat → Int32) (wn : Nat → Int32) (n : Nat) (k : Nat) (r : Int32) (m : Int32) (q : Int32) (hn : c 17 = nI n) (hn7 : n ≤ 7) (hk : c 16 = nI k) (hk12 : k ≤ 12) : Met l yX4_pace (ws_ yX4_pace cX4_pace 11 (some .int)) (zRm 6 0 0) (va_Pc [.ref o, .int r, .int m, .int q] (zPre B0 D A [mOb o ad x, [(ad 5, .inl (D.1 100, 25, .inl c))], [(ad 10, .inl (D.1 100, 25, .inl th))], [(ad 11, .inl (D.1 100, 25, .inl wn))]])) (zQ (S := (Nat → Int32) × (Nat → Int32)) (fun u => (fun (th1 : Nat → Int32) (wn1 : Nat → Int32) => True) u.1 u.2) (fun u => (fun (th1 : Nat → Int32) (wn1 : Nat → Int32) => some (.int (mPace n k c r m q))) u.1 u.2) (fun u => (fun (th1 : Nat → Int32) (wn1 : Nat → Int32) => [mOb o ad x, [(ad 5, .inl (D.1 100, 25, .inl c))], [(ad 10, .inl (D.1 100, 25, .inl th1))], [(ad 11, .inl (D.1 100, 25, .inl wn1))]]) u.1 u.2) D A) 0 0 A := by
  refine z_entry (by decide +kernel) (Nat.le_of_ble_eq_true rfl) (fun pX eX sX mX argsX blX mtX cX QX hQX gX hAX hnm => ?_)
  refine z_eq (lv₂ := [(0, .ref o), (1, .int r), (2, .int m), (3, .int q)]) (st₂ := []) ?_ rfl rfl
  refine z_aload_n (pc := 0) gX 0 dX4_pace_0 rfl rfl ?_
  refine z_iload_n (pc := 1) gX 1 dX4_pace_1 rfl rfl ?_
  refine z_cOV (pc := 2) gX (zI_ok gX hAX) [.int r] [] [0, 1] (met_X4_isRider l D B0 o ad x c r ) q1564 q1566 qs38 q54 q1567 (zm 0 rfl) (ci := 4) rfl rfl hd_X4_isRider ⟨rfl, rfl⟩ ⟨(Nat.le_of_ble_eq_true rfl), (Nat.le_of_ble_eq_true rfl)⟩ rfl rfl rfl (Nat.le_of_ble_eq_true rfl) ⟨(Nat.le_of_ble_eq_true rfl), (Nat.le_of_ble_eq_true rfl)⟩ dX4_pace_2 ?_
  intro _ hu2
  refine z_eq (lv₂ := [(0, .ref o), (1, .int r), (2, .int m), (3, .int q)]) (st₂ := [.int (bI (mIn r 0 (c 17 - 1)))]) ?_ rfl rfl
  refine z_if_eq (pc := 5) gX 23 dX4_pace_5 (by decide) (fun c5 => ?_) (fun c5 => ?_)
  · skip
    have k5 : (mIn r 0 (c 17 - 1)) = false := bI_eq0 c5
    refine z_ldc (pc := 23) gX q1455 dX4_pace_23 ?_
    exact z_rim gX hQX (th, wn) trivial (zsv (by simp [mPace, k5])) rfl (by first | decide | omega) (by first | decide | omega) dX4_pace_25
  · skip
    have k5 : (mIn r 0 (c 17 - 1)) = true := bI_ne0 c5
    obtain ⟨j, hjn, rfl⟩ := riderN k5 hn hn7
    refine z_iload_n (pc := 8) gX 2 dX4_pace_8 rfl rfl ?_
    refine z_iconst (pc := 9) gX 1 dX4_pace_9 (by decide) ?_
    refine z_bipush (pc := 10) gX 6 dX4_pace_10 (by decide) ?_
    refine z_cOS (pc := 12) gX (zI_ok gX hAX) [.int m, .int 1, .int 6] [] [] (met_X4_in l D B0 m 1 6 ) q1452 q1453 q54 q1454 hd_X4_in ⟨rfl, rfl⟩ ⟨(Nat.le_of_ble_eq_true rfl), (Nat.le_of_ble_eq_true rfl)⟩ rfl rfl rfl (Nat.le_of_ble_eq_true rfl) ⟨(Nat.le_of_ble_eq_true rfl), (Nat.le_of_ble_eq_true rfl)⟩ dX4_pace_12 ?_
    intro _ hu12
    refine z_eq (lv₂ := [(0, .ref o), (1, .int (nI j)), (2, .int m), (3, .int q)]) (st₂ := [.int (bI (mIn m 1 6))]) ?_ rfl rfl
    refine z_if_eq (pc := 15) gX 23 dX4_pace_15 (by decide) (fun c15 => ?_) (fun c15 => ?_)
    · skip
      have k15 : (mIn m 1 6) = false := bI_eq0 c15
      refine z_ldc (pc := 23) gX q1455 dX4_pace_23 ?_
      exact z_rim gX hQX (th, wn) trivial (zsv (by simp [mPace, k5, k15])) rfl (by first | decide | omega) (by first | decide | omega) dX4_pace_25
    · skip
      have k15 : (mIn m 1 6) = true := bI_ne0 c15
      obtain ⟨nn, hnn, rfl⟩ := mIn_nat1 k15 6 (by decide)
      have hnn1 : 1 ≤ nn := by simp only [mIn, Bool.and_eq_true, decide_eq_true_eq] at k15; exact (zn_le (a := 1) (by omega) (by omega)).mp k15.1
      refine z_iload_n (pc := 18) gX 3 dX4_pace_18 rfl rfl ?_
      refine z_iconst (pc := 19) gX (-1) dX4_pace_19 (by decide) ?_
      refine z_icmp_ge (pc := 20) gX 26 dX4_pace_20 (by decide) (fun c20 => ?_) (fun c20 => ?_)
      · skip
        refine z_iconst (pc := 26) gX 1 dX4_pace_26 (by decide) ?_
        refine z_istore (pc := 27) gX [1, 2, 3, 4, 0] [(0, .ref o), (1, .int (nI j)), (2, .int (nI nn)), (3, .int q), (4, .int 1)] dX4_pace_27 (by decide) rfl ?_
        refine z_iconst (pc := 29) gX 0 dX4_pace_29 (by decide) ?_
        refine z_istore (pc := 30) gX [1, 2, 3, 4, 5, 0] [(0, .ref o), (1, .int (nI j)), (2, .int (nI nn)), (3, .int q), (4, .int 1), (5, .int 0)] dX4_pace_30 (by decide) rfl ?_
        have L32 : ∀ (n32 : Nat) (i : Nat) (e : Nat), (i ≤ nn) → (e = 3 ^ i) → nn - i < n32 → zJ pX l eX (zRm 6 0 0) sX mX argsX blX mtX cX QX 11 (zI D A sX [mOb o ad x, [(ad 5, .inl (D.1 100, 25, .inl c))], [(ad 10, .inl (D.1 100, 25, .inl th))], [(ad 11, .inl (D.1 100, 25, .inl wn))]]) 0 0 32 [(0, .ref o), (1, .int (nI j)), (2, .int (nI nn)), (3, .int q), (4, .int (nI e)), (5, .int (nI i))] [] := by
          intro n32
          induction n32 with
          | zero => exact fun i e hi he hm32 => absurd hm32 (Nat.not_lt_zero _)
          | succ n32 ih32 =>
            intro i e hi he hm32
            refine z_iload (pc := 32) gX 5 dX4_pace_32 rfl ?_
            refine z_iload_n (pc := 34) gX 2 dX4_pace_34 rfl rfl ?_
            refine z_icmp_ge (pc := 35) gX 50 dX4_pace_35 (by decide) (fun c35 => ?_) (fun c35 => ?_)
            · skip
              have k35 : nn ≤ i := (zn_le (a := nn) (b := i) (by omega) (by omega)).mp c35
              have heN : e = 3 ^ nn := by rw [he, show i = nn by omega]
              have he729 : e ≤ 729 := by rw [heN]; exact pow3 hnn
              refine z_ldc (pc := 50) gX q1604 dX4_pace_50 ?_
              refine z_istore (pc := 52) gX [1, 2, 3, 4, 5, 0] [(0, .ref o), (1, .int (nI j)), (2, .int (nI nn)), (3, .int q), (4, .int (nI e)), (5, .int (-1000000))] dX4_pace_52 (by decide) rfl ?_
              refine z_bipush (pc := 54) gX 99 dX4_pace_54 (by decide) ?_
              refine z_istore (pc := 56) gX [1, 2, 3, 4, 5, 6, 0] [(0, .ref o), (1, .int (nI j)), (2, .int (nI nn)), (3, .int q), (4, .int (nI e)), (5, .int (-1000000)), (6, .int 99)] dX4_pace_56 (by decide) rfl ?_
              refine z_iconst (pc := 58) gX 0 dX4_pace_58 (by decide) ?_
              refine z_istore (pc := 59) gX [1, 2, 3, 4, 5, 6, 7, 0] [(0, .ref o), (1, .int (nI j)), (2, .int (nI nn)), (3, .int q), (4, .int (nI e)), (5, .int (-1000000)), (6, .int 99), (7, .int 0)] dX4_pace_59 (by decide) rfl ?_
              have L61 : ∀ (n61 : Nat) (cd : Nat) (fo : Int32) (le_ : Int32) (t2 : Nat → Int32) (w2 : Nat → Int32), (cd ≤ e) → ((fo, le_) = pcP n k c j nn cd) → e - cd < n61 → zJ pX l eX (zRm 6 0 0) sX mX argsX blX mtX cX QX 11 (zI D A sX [mOb o ad x, [(ad 5, .inl (D.1 100, 25, .inl c))], [(ad 10, .inl (D.1 100, 25, .inl t2))], [(ad 11, .inl (D.1 100, 25, .inl w2))]]) 0 0 61 [(0, .ref o), (1, .int (nI j)), (2, .int (nI nn)), (3, .int q), (4, .int (nI e)), (5, .int fo), (6, .int le_), (7, .int (nI cd))] [] := by
                intro n61
                induction n61 with
                | zero => exact fun cd fo le_ t2 w2 hcd hp hm61 => absurd hm61 (Nat.not_lt_zero _)
                | succ n61 ih61 =>
                  intro cd fo le_ t2 w2 hcd hp hm61
                  refine z_iload (pc := 61) gX 7 dX4_pace_61 rfl ?_
                  refine z_iload (pc := 63) gX 4 dX4_pace_63 rfl ?_
                  refine z_icmp_ge (pc := 65) gX 193 dX4_pace_65 (by decide) (fun c65 => ?_) (fun c65 => ?_)
                  · skip
                    have k65 : e ≤ cd := (zn_le (a := e) (b := cd) (by omega) (by omega)).mp c65
                    have hpn : (fo, le_) = pcP n k c j nn (3 ^ nn) := by rw [hp, show cd = e by omega, heN]
                    refine z_iload (pc := 193) gX 5 dX4_pace_193 rfl ?_
                    refine z_ldc (pc := 195) gX q1604 dX4_pace_195 ?_
                    refine z_icmp_eq (pc := 197) gX 205 dX4_pace_197 (by decide) (fun c197 => ?_) (fun c197 => ?_)
                    · skip
                      refine z_ldc (pc := 205) gX q1604 dX4_pace_205 ?_
                      exact z_rim gX hQX (t2, w2) trivial (zsv (by simp only [mPace, k5, k15, decide_eq_true c20, Bool.and_self, if_true, nI_clamp (show j < 2 ^ 31 by omega), nI_clamp (show nn < 2 ^ 31 by omega), ← hpn]; rw [if_pos (Or.inl c197)])) rfl (by first | decide | omega) (by first | decide | omega) dX4_pace_207
                    · skip
                      obtain ⟨f0, hf0, hfe⟩ : ∃ f0, f0 < e ∧ fo = nI f0 := by rcases pcP_nat n k c j nn cd with h | ⟨f, h1, h2⟩; exact absurd ((congrArg Prod.fst hp).trans h) c197; exact ⟨f, by omega, (congrArg Prod.fst hp).trans h2⟩
                      subst hfe
                      refine z_iload_n (pc := 200) gX 3 dX4_pace_200 rfl rfl ?_
                      refine z_iload_n (pc := 201) gX 2 dX4_pace_201 rfl rfl ?_
                      refine z_icmp_lt (pc := 202) gX 208 dX4_pace_202 (by decide) (fun c202 => ?_) (fun c202 => ?_)
                      · skip
                        rcases q_case c20 c202 hnn with rfl | ⟨k0, hk0, rfl⟩
                        · skip
                          refine z_iload_n (pc := 208) gX 2 dX4_pace_208 rfl rfl ?_
                          refine z_iconst (pc := 209) gX 1 dX4_pace_209 (by decide) ?_
                          refine z_isub (pc := 210) gX dX4_pace_210 ?_
                          refine z_top (nI (nn - 1)) (pk_sub hnn1) ?_
                          refine z_istore (pc := 211) gX [1, 2, 3, 4, 5, 6, 7, 0] [(0, .ref o), (1, .int (nI j)), (2, .int (nI nn)), (3, .int (-1)), (4, .int (nI e)), (5, .int (nI f0)), (6, .int le_), (7, .int (nI (nn - 1)))] dX4_pace_211 (by decide) rfl ?_
                          have L213 : ∀ (n213 : Nat) (q7 : Nat) (f : Nat), (q7 ≤ nn - 1) → (0 ≤ q7) → (f = f0 / 3 ^ (nn - 1 - q7)) → (f ≤ f0) → q7 < n213 → zJ pX l eX (zRm 6 0 0) sX mX argsX blX mtX cX QX 11 (zI D A sX [mOb o ad x, [(ad 5, .inl (D.1 100, 25, .inl c))], [(ad 10, .inl (D.1 100, 25, .inl t2))], [(ad 11, .inl (D.1 100, 25, .inl w2))]]) 0 0 213 [(0, .ref o), (1, .int (nI j)), (2, .int (nI nn)), (3, .int (-1)), (4, .int (nI e)), (5, .int (nI f)), (6, .int le_), (7, .int (nI q7))] [] := by
                            intro n213
                            induction n213 with
                            | zero => exact fun q7 f hq1 hq2 hf hfl hm213 => absurd hm213 (Nat.not_lt_zero _)
                            | succ n213 ih213 =>
                              intro q7 f hq1 hq2 hf hfl hm213
                              refine z_iload (pc := 213) gX 7 dX4_pace_213 rfl ?_
                              refine z_iload_n (pc := 215) gX 3 dX4_pace_215 rfl rfl ?_
                              refine z_icmp_le (pc := 216) gX 235 dX4_pace_216 (by decide) (fun c216 => ?_) (fun c216 => ?_)
                              · skip
                                refine z_iload_n (pc := 235) gX 3 dX4_pace_235 rfl rfl ?_
                                refine z_iconst (pc := 236) gX (-1) dX4_pace_236 (by decide) ?_
                                refine z_icmp_ne (pc := 237) gX 245 dX4_pace_237 (by decide) (fun c237 => ?_) (fun c237 => ?_)
                                · skip
                                  exact absurd c237 (by decide)
                                · skip
                                  refine z_iload (pc := 240) gX 6 dX4_pace_240 rfl ?_
                                  refine z_goto (pc := 242) gX 249 dX4_pace_242 (by decide) ?_
                                  exact z_rim gX hQX (t2, w2) trivial (zsv (by simp only [mPace, k5, k15, decide_eq_true c20, Bool.and_self, if_true, nI_clamp (show j < 2 ^ 31 by omega), nI_clamp (show nn < 2 ^ 31 by omega), ← hpn]; rw [if_neg (fun h => by rcases h with h | h; exact c197 h; exact absurd c202 (Int32.not_lt.mpr h))])) rfl (by first | decide | omega) (by first | decide | omega) dX4_pace_249
                              · skip
                                refine z_iload_n (pc := 219) gX 3 dX4_pace_219 rfl rfl ?_
                                refine z_if_lt (pc := 220) gX 235 dX4_pace_220 (by decide) (fun c220 => ?_) (fun c220 => ?_)
                                · skip
                                  refine z_iload_n (pc := 235) gX 3 dX4_pace_235 rfl rfl ?_
                                  refine z_iconst (pc := 236) gX (-1) dX4_pace_236 (by decide) ?_
                                  refine z_icmp_ne (pc := 237) gX 245 dX4_pace_237 (by decide) (fun c237 => ?_) (fun c237 => ?_)
                                  · skip
                                    exact absurd c237 (by decide)
                                  · skip
                                    refine z_iload (pc := 240) gX 6 dX4_pace_240 rfl ?_
                                    refine z_goto (pc := 242) gX 249 dX4_pace_242 (by decide) ?_
                                    exact z_rim gX hQX (t2, w2) trivial (zsv (by simp only [mPace, k5, k15, decide_eq_true c20, Bool.and_self, if_true, nI_clamp (show j < 2 ^ 31 by omega), nI_clamp (show nn < 2 ^ 31 by omega), ← hpn]; rw [if_neg (fun h => by rcases h with h | h; exact c197 h; exact absurd c202 (Int32.not_lt.mpr h))])) rfl (by first | decide | omega) (by first | decide | omega) dX4_pace_249
                                · skip
                                  exact absurd c220 (by decide)
                          exact L213 ((nn - 1) + 1) (nn - 1) f0 (by omega) (by omega) (by rw [Nat.sub_self, Nat.pow_zero, Nat.div_one]) (by omega) (Nat.lt_succ_self _)
                        · skip
                          refine z_iload_n (pc := 208) gX 2 dX4_pace_208 rfl rfl ?_
                          refine z_iconst (pc := 209) gX 1 dX4_pace_209 (by decide) ?_
                          refine z_isub (pc := 210) gX dX4_pace_210 ?_
                          refine z_top (nI (nn - 1)) (pk_sub hnn1) ?_
                          refine z_istore (pc := 211) gX [1, 2, 3, 4, 5, 6, 7, 0] [(0, .ref o), (1, .int (nI j)), (2, .int (nI nn)), (3, .int (nI k0)), (4, .int (nI e)), (5, .int (nI f0)), (6, .int le_), (7, .int (nI (nn - 1)))] dX4_pace_211 (by decide) rfl ?_
                          have L213 : ∀ (n213 : Nat) (q7 : Nat) (f : Nat), (q7 ≤ nn - 1) → (k0 ≤ q7) → (f = f0 / 3 ^ (nn - 1 - q7)) → (f ≤ f0) → q7 < n213 → zJ pX l eX (zRm 6 0 0) sX mX argsX blX mtX cX QX 11 (zI D A sX [mOb o ad x, [(ad 5, .inl (D.1 100, 25, .inl c))], [(ad 10, .inl (D.1 100, 25, .inl t2))], [(ad 11, .inl (D.1 100, 25, .inl w2))]]) 0 0 213 [(0, .ref o), (1, .int (nI j)), (2, .int (nI nn)), (3, .int (nI k0)), (4, .int (nI e)), (5, .int (nI f)), (6, .int le_), (7, .int (nI q7))] [] := by
                            intro n213
                            induction n213 with
                            | zero => exact fun q7 f hq1 hq2 hf hfl hm213 => absurd hm213 (Nat.not_lt_zero _)
                            | succ n213 ih213 =>
                              intro q7 f hq1 hq2 hf hfl hm213
                              refine z_iload (pc := 213) gX 7 dX4_pace_213 rfl ?_
                              refine z_iload_n (pc := 215) gX 3 dX4_pace_215 rfl rfl ?_
                              refine z_icmp_le (pc := 216) gX 235 dX4_pace_216 (by decide) (fun c216 => ?_) (fun c216 => ?_)
                              · skip
                                have k216 : q7 ≤ k0 := (zn_le (a := q7) (b := k0) (by omega) (by omega)).mp c216
                                refine z_iload_n (pc := 235) gX 3 dX4_pace_235 rfl rfl ?_
                                refine z_iconst (pc := 236) gX (-1) dX4_pace_236 (by decide) ?_
                                refine z_icmp_ne (pc := 237) gX 245 dX4_pace_237 (by decide) (fun c237 => ?_) (fun c237 => ?_)
                                · skip
                                  refine z_iload (pc := 245) gX 5 dX4_pace_245 rfl ?_
                                  refine z_iconst (pc := 247) gX 3 dX4_pace_247 (by decide) ?_
                                  refine z_irem (pc := 248) gX dX4_pace_248 (by decide) ?_
                                  refine z_top (nI (f % 3)) (pk_rem (by omega) (by decide) (by decide)) ?_
                                  exact z_rim gX hQX (t2, w2) trivial (zsv (by simp only [mPace, k5, k15, decide_eq_true c20, Bool.and_self, if_true, nI_clamp (show j < 2 ^ 31 by omega), nI_clamp (show nn < 2 ^ 31 by omega), ← hpn]; rw [if_neg (fun h => by rcases h with h | h; exact c197 h; exact absurd c202 (Int32.not_lt.mpr h)), if_neg (fun h => absurd (show nI k0 < 0 by rw [h]; decide) (nI_pos (by omega))), nI_clamp (show f0 < 2 ^ 31 by omega), nI_clamp (show k0 < 2 ^ 31 by omega)]; simp only [dg]; rw [hf, show q7 = k0 by omega])) rfl (by first | decide | omega) (by first | decide | omega) dX4_pace_249
                                · skip
                                  exact absurd (show nI k0 < 0 by rw [c237]; decide) (nI_pos (by omega))
                              · skip
                                have k216 : k0 < q7 := (zn_nle (a := q7) (b := k0) (by omega) (by omega)).mp c216
                                obtain ⟨q0, rfl⟩ : ∃ q0, q7 = q0 + 1 := ⟨q7 - 1, by omega⟩
                                refine z_iload_n (pc := 219) gX 3 dX4_pace_219 rfl rfl ?_
                                refine z_if_lt (pc := 220) gX 235 dX4_pace_220 (by decide) (fun c220 => ?_) (fun c220 => ?_)
                                · skip
                                  exact absurd c220 (nI_pos (by omega))
                                · skip
                                  refine z_iload (pc := 223) gX 5 dX4_pace_223 rfl ?_
                                  refine z_iconst (pc := 225) gX 3 dX4_pace_225 (by decide) ?_
                                  refine z_idiv (pc := 226) gX dX4_pace_226 (by decide) ?_
                                  refine z_top (nI (f / 3)) (pk_div (by omega) (by decide) (by decide)) ?_
                                  refine z_istore (pc := 227) gX [1, 2, 3, 4, 5, 0, 6, 7] [(0, .ref o), (1, .int (nI j)), (2, .int (nI nn)), (3, .int (nI k0)), (4, .int (nI e)), (5, .int (nI (f / 3))), (6, .int le_), (7, .int (nI (q0 + 1)))] dX4_pace_227 (by decide) rfl ?_
                                  refine z_iinc (pc := 229) gX 7 (nI q0) [1, 2, 3, 4, 5, 6, 7, 0] [(0, .ref o), (1, .int (nI j)), (2, .int (nI nn)), (3, .int (nI k0)), (4, .int (nI e)), (5, .int (nI (f / 3))), (6, .int le_), (7, .int (nI q0))] dX4_pace_229 rfl (pk_m1 _) (by decide) rfl ?_
                                  refine z_goto (pc := 232) gX 213 dX4_pace_232 (by decide) ?_
                                  exact ih213 q0 (f / 3) (by omega) (by omega) (by rw [hf, Nat.div_div_eq_div_mul, ← Nat.pow_succ, show (nn - 1 - (q0 + 1)).succ = nn - 1 - q0 by omega]) (by have := Nat.div_le_self f 3; omega) (by omega)
                          exact L213 ((nn - 1) + 1) (nn - 1) f0 (by omega) (by omega) (by rw [Nat.sub_self, Nat.pow_zero, Nat.div_one]) (by omega) (Nat.lt_succ_self _)
                      · skip
                        refine z_ldc (pc := 205) gX q1604 dX4_pace_205 ?_
                        exact z_rim gX hQX (t2, w2) trivial (zsv (by simp only [mPace, k5, k15, decide_eq_true c20, Bool.and_self, if_true, nI_clamp (show j < 2 ^ 31 by omega), nI_clamp (show nn < 2 ^ 31 by omega), ← hpn]; rw [if_pos (Or.inr (Int32.not_lt.mp c202))])) rfl (by first | decide | omega) (by first | decide | omega) dX4_pace_207
                  · skip
                    have k65 : cd < e := (zn_nle (a := e) (b := cd) (by omega) (by omega)).mp c65
                    refine z_aload_n (pc := 68) gX 0 dX4_pace_68 rfl rfl ?_
                    refine z_cMV (pc := 69) gX hAX [] [] [0, 1, 2] [3] (fun A1 => met_X4_starts l D B0 A1 o ad x c t2 ) q1592 q1594 qs39 q54 q1595 (zm 0 rfl) (ci := 4) rfl rfl hd_X4_starts ⟨rfl, rfl⟩ ⟨(Nat.le_of_ble_eq_true rfl), (Nat.le_of_ble_eq_true rfl)⟩ rfl rfl rfl rfl rfl (Nat.le_of_ble_eq_true rfl) ⟨(Nat.le_of_ble_eq_true rfl), (Nat.le_of_ble_eq_true rfl)⟩ dX4_pace_69 ?_
                    intro _ hu69
                    refine z_re [0, 1, 2, 3] [mOb o ad x, [(ad 5, .inl (D.1 100, 25, .inl c))], [(ad 10, .inl (D.1 100, 25, .inl c))], [(ad 11, .inl (D.1 100, 25, .inl w2))]] rfl rfl ?_
                    refine z_eq (lv₂ := [(0, .ref o), (1, .int (nI j)), (2, .int (nI nn)), (3, .int q), (4, .int (nI e)), (5, .int fo), (6, .int le_), (7, .int (nI cd))]) (st₂ := []) ?_ rfl rfl
                    refine z_iload (pc := 72) gX 4 dX4_pace_72 rfl ?_
                    refine z_istore (pc := 74) gX [1, 2, 3, 4, 5, 6, 7, 8, 0] [(0, .ref o), (1, .int (nI j)), (2, .int (nI nn)), (3, .int q), (4, .int (nI e)), (5, .int fo), (6, .int le_), (7, .int (nI cd)), (8, .int (nI e))] dX4_pace_74 (by decide) rfl ?_
                    refine z_iconst (pc := 76) gX 0 dX4_pace_76 (by decide) ?_
                    refine z_istore (pc := 77) gX [1, 2, 3, 4, 5, 6, 7, 8, 9, 0] [(0, .ref o), (1, .int (nI j)), (2, .int (nI nn)), (3, .int q), (4, .int (nI e)), (5, .int fo), (6, .int le_), (7, .int (nI cd)), (8, .int (nI e)), (9, .int 0)] dX4_pace_77 (by decide) rfl ?_
                    refine z_iconst (pc := 79) gX 0 dX4_pace_79 (by decide) ?_
                    refine z_istore (pc := 80) gX [1, 2, 3, 4, 5, 6, 7, 8, 9, 10, 0] [(0, .ref o), (1, .int (nI j)), (2, .int (nI nn)), (3, .int q), (4, .int (nI e)), (5, .int fo), (6, .int le_), (7, .int (nI cd)), (8, .int (nI e)), (9, .int 0), (10, .int 0)] dX4_pace_80 (by decide) rfl ?_
                    have L82 : ∀ (n82 : Nat) (j2 : Nat) (b : Nat) (sm : Nat) (t3 : Nat → Int32) (w3 : Nat → Int32), (j2 ≤ nn) → (b = 3 ^ (nn - j2)) → (sm = rnS nn cd j2) → (t3 = rnC n k c nn cd j2) → nn - j2 < n82 → zJ pX l eX (zRm 6 0 0) sX mX argsX blX mtX cX QX 11 (zI D A sX [mOb o ad x, [(ad 5, .inl (D.1 100, 25, .inl c))], [(ad 10, .inl (D.1 100, 25, .inl t3))], [(ad 11, .inl (D.1 100, 25, .inl w3))]]) 0 0 82 [(0, .ref o), (1, .int (nI j)), (2, .int (nI nn)), (3, .int q), (4, .int (nI e)), (5, .int fo), (6, .int le_), (7, .int (nI cd)), (8, .int (nI b)), (9, .int (nI sm)), (10, .int (nI j2))] [] := by
                      intro n82
                      induction n82 with
                      | zero => exact fun j2 b sm t3 w3 hj2 hb hsum ht3 hm82 => absurd hm82 (Nat.not_lt_zero _)
                      | succ n82 ih82 =>
                        intro j2 b sm t3 w3 hj2 hb hsum ht3 hm82
                        refine z_iload (pc := 82) gX 10 dX4_pace_82 rfl ?_
                        refine z_iload_n (pc := 84) gX 2 dX4_pace_84 rfl rfl ?_
                        refine z_icmp_ge (pc := 85) gX 132 dX4_pace_85 (by decide) (fun c85 => ?_) (fun c85 => ?_)
                        · skip
                          have k85 : nn ≤ j2 := (zn_le (a := nn) (b := j2) (by omega) (by omega)).mp c85
                          have ht3n : t3 = rnC n k c nn cd nn := by rw [ht3, show j2 = nn by omega]
                          have hsm : sm = rnS nn cd nn := by rw [hsum, show j2 = nn by omega]
                          have hsml := rnS_le nn cd nn
                          refine z_aload_n (pc := 132) gX 0 dX4_pace_132 rfl rfl ?_
                          refine z_get (pc := 133) gX (zI_ok gX hAX) (zm 0 rfl) (ci := 4) (C := RX4) (T := TX4) (N := 20) rfl in_X4 14 (by decide) q1397 (fun _ h => h) (v := .ref (ad 10)) rfl dX4_pace_133 ?_
                          refine z_iconst (pc := 136) gX 2 dX4_pace_136 (by decide) ?_
                          refine z_iload_n (pc := 137) gX 1 dX4_pace_137 rfl rfl ?_
                          refine z_iadd (pc := 138) gX dX4_pace_138 ?_
                          refine z_top (nI (2 + j)) (nI_add 2 j) ?_
                          refine z_iald (pc := 139) gX (zI_ok gX hAX) (j := (2 + j)) (n := 25) (f := t3) (zm 2 rfl) (by omega) (by decide) dX4_pace_139 ?_
                          refine z_bipush (pc := 140) gX 99 dX4_pace_140 (by decide) ?_
                          refine z_icmp_ne (pc := 142) gX 156 dX4_pace_142 (by decide) (fun c142 => ?_) (fun c142 => ?_)
                          · skip
                            refine z_iconst (pc := 156) gX 0 dX4_pace_156 (by decide) ?_
                            refine z_istore (pc := 157) gX [1, 2, 3, 4, 5, 6, 7, 8, 9, 10, 0] [(0, .ref o), (1, .int (nI j)), (2, .int (nI nn)), (3, .int q), (4, .int (nI e)), (5, .int fo), (6, .int le_), (7, .int (nI cd)), (8, .int (nI b)), (9, .int (nI sm)), (10, .int 0)] dX4_pace_157 (by decide) rfl ?_
                            refine z_iload (pc := 159) gX 10 dX4_pace_159 rfl ?_
                            refine z_if_eq (pc := 161) gX 169 dX4_pace_161 (by decide) (fun c161 => ?_) (fun c161 => ?_)
                            · skip
                              refine z_iload (pc := 169) gX 5 dX4_pace_169 rfl ?_
                              refine z_istore (pc := 171) gX [1, 2, 3, 4, 5, 0, 6, 7, 8, 9, 10] [(0, .ref o), (1, .int (nI j)), (2, .int (nI nn)), (3, .int q), (4, .int (nI e)), (5, .int fo), (6, .int le_), (7, .int (nI cd)), (8, .int (nI b)), (9, .int (nI sm)), (10, .int 0)] dX4_pace_171 (by decide) rfl ?_
                              refine z_iload (pc := 173) gX 10 dX4_pace_173 rfl ?_
                              refine z_if_eq (pc := 175) gX 183 dX4_pace_175 (by decide) (fun c175 => ?_) (fun c175 => ?_)
                              · skip
                                refine z_iload (pc := 183) gX 6 dX4_pace_183 rfl ?_
                                refine z_istore (pc := 185) gX [1, 2, 3, 4, 5, 6, 0, 7, 8, 9, 10] [(0, .ref o), (1, .int (nI j)), (2, .int (nI nn)), (3, .int q), (4, .int (nI e)), (5, .int fo), (6, .int le_), (7, .int (nI cd)), (8, .int (nI b)), (9, .int (nI sm)), (10, .int 0)] dX4_pace_185 (by decide) rfl ?_
                                refine z_iinc (pc := 187) gX 7 (nI (cd + 1)) [1, 2, 3, 4, 5, 6, 7, 0, 8, 9, 10] [(0, .ref o), (1, .int (nI j)), (2, .int (nI nn)), (3, .int q), (4, .int (nI e)), (5, .int fo), (6, .int le_), (7, .int (nI (cd + 1))), (8, .int (nI b)), (9, .int (nI sm)), (10, .int 0)] dX4_pace_187 rfl (nI_1 _) (by decide) rfl ?_
                                refine z_goto (pc := 190) gX 61 dX4_pace_190 (by decide) ?_
                                refine z_lv [0, 1, 2, 3, 4, 5, 6, 7] [(0, .ref o), (1, .int (nI j)), (2, .int (nI nn)), (3, .int q), (4, .int (nI e)), (5, .int fo), (6, .int le_), (7, .int (nI (cd + 1)))] rfl ?_
                                exact ih61 (cd + 1) fo le_ t3 w3 (by omega) (by rw [show pcP n k c j nn (cd + 1) = pcS n k c j nn cd (pcP n k c j nn cd) from rfl, ← hp]; simp only [pcS, ← ht3n, ← hsm]; rw [if_neg (fun h => c142 h.1)]) (by omega)
                              · skip
                                exact absurd c175 (by decide)
                            · skip
                              exact absurd c161 (by decide)
                          · skip
                            refine z_iload (pc := 145) gX 9 dX4_pace_145 rfl ?_
                            refine z_iload (pc := 147) gX 6 dX4_pace_147 rfl ?_
                            refine z_icmp_ge (pc := 149) gX 156 dX4_pace_149 (by decide) (fun c149 => ?_) (fun c149 => ?_)
                            · skip
                              refine z_iconst (pc := 156) gX 0 dX4_pace_156 (by decide) ?_
                              refine z_istore (pc := 157) gX [1, 2, 3, 4, 5, 6, 7, 8, 9, 10, 0] [(0, .ref o), (1, .int (nI j)), (2, .int (nI nn)), (3, .int q), (4, .int (nI e)), (5, .int fo), (6, .int le_), (7, .int (nI cd)), (8, .int (nI b)), (9, .int (nI sm)), (10, .int 0)] dX4_pace_157 (by decide) rfl ?_
                              refine z_iload (pc := 159) gX 10 dX4_pace_159 rfl ?_
                              refine z_if_eq (pc := 161) gX 169 dX4_pace_161 (by decide) (fun c161 => ?_) (fun c161 => ?_)
                              · skip
                                refine z_iload (pc := 169) gX 5 dX4_pace_169 rfl ?_
                                refine z_istore (pc := 171) gX [1, 2, 3, 4, 5, 0, 6, 7, 8, 9, 10] [(0, .ref o), (1, .int (nI j)), (2, .int (nI nn)), (3, .int q), (4, .int (nI e)), (5, .int fo), (6, .int le_), (7, .int (nI cd)), (8, .int (nI b)), (9, .int (nI sm)), (10, .int 0)] dX4_pace_171 (by decide) rfl ?_
                                refine z_iload (pc := 173) gX 10 dX4_pace_173 rfl ?_
                                refine z_if_eq (pc := 175) gX 183 dX4_pace_175 (by decide) (fun c175 => ?_) (fun c175 => ?_)
                                · skip
                                  refine z_iload (pc := 183) gX 6 dX4_pace_183 rfl ?_
                                  refine z_istore (pc := 185) gX [1, 2, 3, 4, 5, 6, 0, 7, 8, 9, 10] [(0, .ref o), (1, .int (nI j)), (2, .int (nI nn)), (3, .int q), (4, .int (nI e)), (5, .int fo), (6, .int le_), (7, .int (nI cd)), (8, .int (nI b)), (9, .int (nI sm)), (10, .int 0)] dX4_pace_185 (by decide) rfl ?_
                                  refine z_iinc (pc := 187) gX 7 (nI (cd + 1)) [1, 2, 3, 4, 5, 6, 7, 0, 8, 9, 10] [(0, .ref o), (1, .int (nI j)), (2, .int (nI nn)), (3, .int q), (4, .int (nI e)), (5, .int fo), (6, .int le_), (7, .int (nI (cd + 1))), (8, .int (nI b)), (9, .int (nI sm)), (10, .int 0)] dX4_pace_187 rfl (nI_1 _) (by decide) rfl ?_
                                  refine z_goto (pc := 190) gX 61 dX4_pace_190 (by decide) ?_
                                  refine z_lv [0, 1, 2, 3, 4, 5, 6, 7] [(0, .ref o), (1, .int (nI j)), (2, .int (nI nn)), (3, .int q), (4, .int (nI e)), (5, .int fo), (6, .int le_), (7, .int (nI (cd + 1)))] rfl ?_
                                  exact ih61 (cd + 1) fo le_ t3 w3 (by omega) (by rw [show pcP n k c j nn (cd + 1) = pcS n k c j nn cd (pcP n k c j nn cd) from rfl, ← hp]; simp only [pcS, ← ht3n, ← hsm]; rw [if_neg (fun h => absurd c149 (Int32.not_le.mpr h.2))]) (by omega)
                                · skip
                                  exact absurd c175 (by decide)
                              · skip
                                exact absurd c161 (by decide)
                            · skip
                              refine z_iconst (pc := 152) gX 1 dX4_pace_152 (by decide) ?_
                              refine z_goto (pc := 153) gX 157 dX4_pace_153 (by decide) ?_
                              refine z_istore (pc := 157) gX [1, 2, 3, 4, 5, 6, 7, 8, 9, 10, 0] [(0, .ref o), (1, .int (nI j)), (2, .int (nI nn)), (3, .int q), (4, .int (nI e)), (5, .int fo), (6, .int le_), (7, .int (nI cd)), (8, .int (nI b)), (9, .int (nI sm)), (10, .int 1)] dX4_pace_157 (by decide) rfl ?_
                              refine z_iload (pc := 159) gX 10 dX4_pace_159 rfl ?_
                              refine z_if_eq (pc := 161) gX 169 dX4_pace_161 (by decide) (fun c161 => ?_) (fun c161 => ?_)
                              · skip
                                exact absurd c161 (by decide)
                              · skip
                                refine z_iload (pc := 164) gX 7 dX4_pace_164 rfl ?_
                                refine z_goto (pc := 166) gX 171 dX4_pace_166 (by decide) ?_
                                refine z_istore (pc := 171) gX [1, 2, 3, 4, 5, 0, 6, 7, 8, 9, 10] [(0, .ref o), (1, .int (nI j)), (2, .int (nI nn)), (3, .int q), (4, .int (nI e)), (5, .int (nI cd)), (6, .int le_), (7, .int (nI cd)), (8, .int (nI b)), (9, .int (nI sm)), (10, .int 1)] dX4_pace_171 (by decide) rfl ?_
                                refine z_iload (pc := 173) gX 10 dX4_pace_173 rfl ?_
                                refine z_if_eq (pc := 175) gX 183 dX4_pace_175 (by decide) (fun c175 => ?_) (fun c175 => ?_)
                                · skip
                                  exact absurd c175 (by decide)
                                · skip
                                  refine z_iload (pc := 178) gX 9 dX4_pace_178 rfl ?_
                                  refine z_goto (pc := 180) gX 185 dX4_pace_180 (by decide) ?_
                                  refine z_istore (pc := 185) gX [1, 2, 3, 4, 5, 6, 0, 7, 8, 9, 10] [(0, .ref o), (1, .int (nI j)), (2, .int (nI nn)), (3, .int q), (4, .int (nI e)), (5, .int (nI cd)), (6, .int (nI sm)), (7, .int (nI cd)), (8, .int (nI b)), (9, .int (nI sm)), (10, .int 1)] dX4_pace_185 (by decide) rfl ?_
                                  refine z_iinc (pc := 187) gX 7 (nI (cd + 1)) [1, 2, 3, 4, 5, 6, 7, 0, 8, 9, 10] [(0, .ref o), (1, .int (nI j)), (2, .int (nI nn)), (3, .int q), (4, .int (nI e)), (5, .int (nI cd)), (6, .int (nI sm)), (7, .int (nI (cd + 1))), (8, .int (nI b)), (9, .int (nI sm)), (10, .int 1)] dX4_pace_187 rfl (nI_1 _) (by decide) rfl ?_
                                  refine z_goto (pc := 190) gX 61 dX4_pace_190 (by decide) ?_
                                  refine z_lv [0, 1, 2, 3, 4, 5, 6, 7] [(0, .ref o), (1, .int (nI j)), (2, .int (nI nn)), (3, .int q), (4, .int (nI e)), (5, .int (nI cd)), (6, .int (nI sm)), (7, .int (nI (cd + 1)))] rfl ?_
                                  exact ih61 (cd + 1) (nI cd) (nI sm) t3 w3 (by omega) (by rw [show pcP n k c j nn (cd + 1) = pcS n k c j nn cd (pcP n k c j nn cd) from rfl, ← hp]; simp only [pcS, ← ht3n, ← hsm]; rw [if_pos ⟨c142, Int32.not_le.mp c149⟩]) (by omega)
                        · skip
                          have k85 : j2 < nn := (zn_nle (a := nn) (b := j2) (by omega) (by omega)).mp c85
                          have hb1 : b / 3 = 3 ^ (nn - (j2 + 1)) := by rw [hb]; exact pow3_s k85
                          obtain ⟨b1, hb1d⟩ : ∃ b1, b1 = b / 3 := ⟨_, rfl⟩
                          have hb1p : 0 < b1 := by rw [hb1d, hb1]; exact Nat.pow_pos (by decide)
                          have hb1l : b1 ≤ 729 := by rw [hb1d, hb1]; exact pow3 (by omega)
                          have hbl : b ≤ 729 := by rw [hb]; exact pow3 (by omega)
                          have hdg : cd / b1 % 3 = dg nn cd j2 := by rw [hb1d, hb1]; simp only [dg]; rw [show nn - (j2 + 1) = nn - 1 - j2 by omega]
                          have hsl := rnS_le nn cd j2
                          have hcdb := Nat.div_le_self cd b1
                          have hm3 := Nat.mod_lt (cd / b1) (show 0 < 3 by decide)
                          refine z_iload (pc := 88) gX 8 dX4_pace_88 rfl ?_
                          refine z_iconst (pc := 90) gX 3 dX4_pace_90 (by decide) ?_
                          refine z_idiv (pc := 91) gX dX4_pace_91 (by decide) ?_
                          refine z_top (nI b1) (by rw [hb1d]; exact pk_div (by omega) (by decide) (by decide)) ?_
                          refine z_istore (pc := 92) gX [1, 2, 3, 4, 5, 6, 7, 8, 0, 9, 10] [(0, .ref o), (1, .int (nI j)), (2, .int (nI nn)), (3, .int q), (4, .int (nI e)), (5, .int fo), (6, .int le_), (7, .int (nI cd)), (8, .int (nI b1)), (9, .int (nI sm)), (10, .int (nI j2))] dX4_pace_92 (by decide) rfl ?_
                          refine z_aload_n (pc := 94) gX 0 dX4_pace_94 rfl rfl ?_
                          refine z_get (pc := 95) gX (zI_ok gX hAX) (zm 0 rfl) (ci := 4) (C := RX4) (T := TX4) (N := 20) rfl in_X4 14 (by decide) q1397 (fun _ h => h) (v := .ref (ad 10)) rfl dX4_pace_95 ?_
                          refine z_iconst (pc := 98) gX 1 dX4_pace_98 (by decide) ?_
                          refine z_iload (pc := 99) gX 7 dX4_pace_99 rfl ?_
                          refine z_iload (pc := 101) gX 8 dX4_pace_101 rfl ?_
                          refine z_idiv (pc := 103) gX dX4_pace_103 (nI_ne0 hb1p (by omega)) ?_
                          refine z_top (nI (cd / b1)) (pk_div (by omega) hb1p (by omega)) ?_
                          refine z_iconst (pc := 104) gX 3 dX4_pace_104 (by decide) ?_
                          refine z_irem (pc := 105) gX dX4_pace_105 (by decide) ?_
                          refine z_top (nI (cd / b1 % 3)) (pk_rem (d := 3) (by omega) (by decide) (by decide)) ?_
                          refine z_ixtop (nI 1) rfl ?_
                          refine z_iast (pc := 106) gX hAX 2 (j := 1) (n := 25) (f := t3) rfl (by omega) (by decide) [mOb o ad x, [(ad 5, .inl (D.1 100, 25, .inl c))], [(ad 10, .inl (D.1 100, 25, .inl (upd t3 1 (nI (cd / b1 % 3)))))], [(ad 11, .inl (D.1 100, 25, .inl w3))]] rfl dX4_pace_106 ?_
                          refine z_iload (pc := 107) gX 9 dX4_pace_107 rfl ?_
                          refine z_aload_n (pc := 109) gX 0 dX4_pace_109 rfl rfl ?_
                          refine z_get (pc := 110) gX (zI_ok gX hAX) (zm 0 rfl) (ci := 4) (C := RX4) (T := TX4) (N := 20) rfl in_X4 14 (by decide) q1397 (fun _ h => h) (v := .ref (ad 10)) rfl dX4_pace_110 ?_
                          refine z_iconst (pc := 113) gX 1 dX4_pace_113 (by decide) ?_
                          refine z_top (nI 1) rfl ?_
                          refine z_iald (pc := 114) gX (zI_ok gX hAX) (j := 1) (n := 25) (f := (upd t3 1 (nI (cd / b1 % 3)))) (zm 2 rfl) (by omega) (by decide) dX4_pace_114 ?_
                          refine z_top (nI (cd / b1 % 3)) pk_us ?_
                          refine z_iadd (pc := 115) gX dX4_pace_115 ?_
                          refine z_top (nI (sm + cd / b1 % 3)) (nI_add sm (cd / b1 % 3)) ?_
                          refine z_istore (pc := 116) gX [1, 2, 3, 4, 5, 6, 7, 8, 9, 0, 10] [(0, .ref o), (1, .int (nI j)), (2, .int (nI nn)), (3, .int q), (4, .int (nI e)), (5, .int fo), (6, .int le_), (7, .int (nI cd)), (8, .int (nI b1)), (9, .int (nI (sm + cd / b1 % 3))), (10, .int (nI j2))] dX4_pace_116 (by decide) rfl ?_
                          refine z_aload_n (pc := 118) gX 0 dX4_pace_118 rfl rfl ?_
                          refine z_aload_n (pc := 119) gX 0 dX4_pace_119 rfl rfl ?_
                          refine z_get (pc := 120) gX (zI_ok gX hAX) (zm 0 rfl) (ci := 4) (C := RX4) (T := TX4) (N := 20) rfl in_X4 14 (by decide) q1397 (fun _ h => h) (v := .ref (ad 10)) rfl dX4_pace_120 ?_
                          refine z_cMV (pc := 123) gX hAX [.ref (ad 10)] [] [0, 3, 2] [1] (fun A1 => met_X4_tick l D B0 A1 o ad x (ad 10) w3 (upd t3 1 (nI (cd / b1 % 3))) n k (by rw [pk_un (by omega), ht3]; exact (rnC_fr hn7 _ 17 (by omega)).trans hn) (by first | assumption | omega) (by rw [pk_un (by omega), ht3]; exact (rnC_fr hn7 _ 16 (by omega)).trans hk) (by first | assumption | omega)) q1537 q1539 qs37 q54 q1540 (zm 0 rfl) (ci := 4) rfl rfl hd_X4_tick ⟨rfl, rfl⟩ ⟨(Nat.le_of_ble_eq_true rfl), (Nat.le_of_ble_eq_true rfl)⟩ rfl rfl rfl rfl rfl (Nat.le_of_ble_eq_true rfl) ⟨(Nat.le_of_ble_eq_true rfl), (Nat.le_of_ble_eq_true rfl)⟩ dX4_pace_123 ?_
                          intro u123 hu123
                          obtain ⟨wn1_123, rfl⟩ : ∃ z, z = u123 := ⟨_, rfl⟩
                          refine z_re [0, 3, 2, 1] [mOb o ad x, [(ad 5, .inl (D.1 100, 25, .inl c))], [(ad 10, .inl (D.1 100, 25, .inl (mTick n k (upd t3 1 (nI (cd / b1 % 3))))))], [(ad 11, .inl (D.1 100, 25, .inl wn1_123))]] rfl rfl ?_
                          refine z_eq (lv₂ := [(0, .ref o), (1, .int (nI j)), (2, .int (nI nn)), (3, .int q), (4, .int (nI e)), (5, .int fo), (6, .int le_), (7, .int (nI cd)), (8, .int (nI b1)), (9, .int (nI (sm + cd / b1 % 3))), (10, .int (nI j2))]) (st₂ := []) ?_ rfl rfl
                          refine z_iinc (pc := 126) gX 10 (nI (j2 + 1)) [1, 2, 3, 4, 5, 6, 7, 8, 9, 10, 0] [(0, .ref o), (1, .int (nI j)), (2, .int (nI nn)), (3, .int q), (4, .int (nI e)), (5, .int fo), (6, .int le_), (7, .int (nI cd)), (8, .int (nI b1)), (9, .int (nI (sm + cd / b1 % 3))), (10, .int (nI (j2 + 1)))] dX4_pace_126 rfl (nI_1 _) (by decide) rfl ?_
                          refine z_goto (pc := 129) gX 82 dX4_pace_129 (by decide) ?_
                          exact ih82 (j2 + 1) b1 (sm + cd / b1 % 3) (mTick n k (upd t3 1 (nI (cd / b1 % 3)))) wn1_123 (by omega) (by rw [hb1d]; exact hb1) (by simp only [rnS]; rw [← hsum, ← hdg]) (by simp only [rnC]; rw [← ht3, ← hdg]) (by omega)
                    exact L82 ((nn - 0) + 1) 0 e 0 c w2 (by omega) heN rfl rfl (Nat.lt_succ_self _)
              exact L61 ((e - 0) + 1) 0 (-1000000) 99 th wn (by omega) rfl (Nat.lt_succ_self _)
            · skip
              have k35 : i < nn := (zn_nle (a := nn) (b := i) (by omega) (by omega)).mp c35
              have hei : e ≤ 729 := by rw [he]; exact pow3 (by omega)
              refine z_iload (pc := 38) gX 4 dX4_pace_38 rfl ?_
              refine z_iconst (pc := 40) gX 3 dX4_pace_40 (by decide) ?_
              refine z_imul (pc := 41) gX dX4_pace_41 ?_
              refine z_top (nI (e * 3)) (pk_mul e 3) ?_
              refine z_istore (pc := 42) gX [1, 2, 3, 4, 0, 5] [(0, .ref o), (1, .int (nI j)), (2, .int (nI nn)), (3, .int q), (4, .int (nI (e * 3))), (5, .int (nI i))] dX4_pace_42 (by decide) rfl ?_
              refine z_iinc (pc := 44) gX 5 (nI (i + 1)) [1, 2, 3, 4, 5, 0] [(0, .ref o), (1, .int (nI j)), (2, .int (nI nn)), (3, .int q), (4, .int (nI (e * 3))), (5, .int (nI (i + 1)))] dX4_pace_44 rfl (nI_1 _) (by decide) rfl ?_
              refine z_goto (pc := 47) gX 32 dX4_pace_47 (by decide) ?_
              exact ih32 (i + 1) (e * 3) (by omega) (by rw [he, Nat.pow_succ]) (by omega)
        exact L32 ((nn - 0) + 1) 0 1 (by omega) rfl (Nat.lt_succ_self _)
      · skip
        refine z_ldc (pc := 23) gX q1455 dX4_pace_23 ?_
        exact z_rim gX hQX (th, wn) trivial (zsv (by simp [mPace, k5, k15, c20])) rfl (by first | decide | omega) (by first | decide | omega) dX4_pace_25
theorem hd_X4_pace : zHd yX4_pace 3 := by unfold zHd; decide +kernel

