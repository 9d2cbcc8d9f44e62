set_option maxRecDepth 100000
/-! undo, image, restore; what is asked of the stair -/
theorem setS_id {pf : pF} {a : Nat} {s : sP} (h : pf a = some s) : setS pf a (some s) = pf := by
  funext i; simp only [setS]; split
  · rename_i e; rw [e, h]
  · rfl
theorem pst_cs {D : va_G} {pf : pF} {a m : Nat} {q : Nat → Nat} {s : sT} (h : a < m) (hq : pf a = some (q, s)) : [thP D q s, pstP D (setS pf a none) m].flatten.Perm (pstP D pf m) := by
  have := pst_c (D := D) (pf := pf) (q := q) (s := s) h
  rwa [setS_id hq] at this
theorem und_row {pa c ci : Nat → Int32} {i : Nat} (h1 : ∀ j, j < 16 → ci j = pa (16 * i + j)) (h2 : ∀ j, 16 ≤ j → ci j = c j) : ci = fun j => if j < 16 then pa (16 * i + j) else c j := by
  funext j
  by_cases e : j < 16
  · rw [if_pos e, h1 j e]
  · rw [if_neg e, h2 j (by omega)]
theorem und_ok {T : va_W} {n k : Nat} {ra : Nat → Nat} {c ci xm pa : Nat → Int32} {kn : Nat} {pf : pF} {d : Nat} (hG : gOK T n k ra c) (hA : aOK n k ra c xm kn pf pa) (h0 : 0 < kn) (h2 : ∀ j, 16 ≤ j → ci j = c j) (hr : rowOK n k ci) : sOK T (some d) n k ra ci ∧ aOK n k ra ci (upd xm 3 (nI (kn - 1))) (kn - 1) pf pa := by
  have hn1 := hG.1
  refine ⟨Or.inr ⟨⟨d, rfl⟩, hG.to h2 hr.2.2.1⟩, pk_us, fun _ => hr.2.2.2, fun e => by omega, ?_⟩
  have := hA.2.2.2
  refine ⟨by have := this.1; omega, this.2.1, fun i hi => ?_⟩
  obtain ⟨q, d, m, cj, e1, e2, e3, e4⟩ := this.2.2 i (by omega)
  exact ⟨q, d, m, cj, e1, e2, fun j hj => (e3 j hj).trans (h2 j hj).symm, e4⟩
/-- images as the reference keeps them -/
def imR (T : va_W) (jf : pF) (im kp : Nat → Int32) : Prop := pfG jf ∧ ∀ i, i < 2 → (kp i = 0 ∧ jf i = none) ∨ (¬ kp i = 0 ∧ ∃ q d ni rai m ci ki, jf i = some (q, ((some d, ni, rai), m, ci)) ∧ gOK T ni ki rai ci ∧ nW ni ci ∧ ∀ j, j < 25 → ci j = im (25 * i + j))
theorem imR.set {T : va_W} {jf : pF} {im kp c : Nat → Int32} {i d n k : Nat} {ra : Nat → Nat} {q : Nat → Nat} {m : Int32 × Int32 × (Nat → Int32)} (h : imR T jf im kp) (hi : i < 2) (hG : gOK T n k ra c) (hn : nW n c) : imR T (setS jf i (some (q, ((some d, n, ra), m, c)))) (cpT im (25 * i) c 25) (upd kp i (vp_nar .boolean 1)) := by
  refine ⟨pfG_set h.1 ⟨⟨d, rfl⟩, hG.2.1⟩, fun a ha => ?_⟩
  by_cases e : a = i
  · subst e
    refine Or.inr ⟨by rw [pk_us]; decide, q, d, n, ra, m, c, k, if_pos rfl, hG, hn, fun j hj => ?_⟩
    simp only [cpT]; rw [if_pos (by omega), show 25 * a + j - 25 * a = j by omega]
  · rw [pk_un e, show setS jf i (some (q, ((some d, n, ra), m, c))) a = jf a from if_neg e]
    rcases h.2 a ha with h1 | ⟨h1, q1, d1, n1, r1, m1, c1, k1, h2, h3, h4, h5⟩
    · exact Or.inl h1
    · refine Or.inr ⟨h1, q1, d1, n1, r1, m1, c1, k1, h2, h3, h4, fun j hj => ?_⟩
      rw [h5 j hj]; simp only [cpT]; rw [if_neg (by omega)]
theorem rest_ok {T : va_W} {n k : Nat} {ra : Nat → Nat} {c : Nat → Int32} {xm pa : Nat → Int32} {pf : pF} {d : Nat} (hp : pfG pf) (hG : gOK T n k ra c) (hn : nW n c) : sOK T (some d) n k ra c ∧ aOK n k ra c (upd xm 3 0) 0 pf pa :=
  ⟨Or.inr ⟨⟨d, rfl⟩, hG⟩, pk_us, fun _ => hn, fun _ => rfl, by omega, hp, fun i hi => absurd hi (Nat.not_lt_zero _)⟩


set_option maxHeartbeats 4000000 in
theorem met_X0_undo (l : Launch) (D : va_G) (B0 : Nat) (A : Nat → Prop) (o : Nat) (ad : Nat → Nat) (sa : Nat → Nat) (sb : Nat → Nat) (tr : Nat) (x : Nat → Int32) (da : Option Nat) (n : Nat) (ra : Nat → Nat) (md : Int32) (wn : Int32) (od : Nat → Int32) (c : Nat → Int32) (T : va_W) (k : Nat) (xm : Nat → Int32) (pa : Nat → Int32) (pf : pF) (kn : Nat) (hS : sOK T da n k ra c) (hx : x 2 = nI kn) (hA : aOK n k ra c xm kn pf pa) : Met l yX0_undo (ws_ yX0_undo cX0_undo 1 (some .int)) (zRm 7 0 0) (va_Pc [.ref o] (zPre B0 D A [cOb o ad (sa 0) (sb 0) tr x, [(ad 2, .inl (D.1 106, 24, .inr (.inr (.inr (.inr (pRef pf))))))], thP D sa ((da, n, ra), (md, wn, od), c), pstP D pf 24, T])) (zQ (S := Int32 × (Nat → Int32) × (Nat → Int32) × Nat × Int32 × Int32) (fun u => (fun (r_ : Int32) (xm1 : Nat → Int32) (c1 : Nat → Int32) (kn1 : Nat) (md1 : Int32) (wn1 : Int32) => (r_, xm1, c1) = mUndo kn xm pa c ∧ sOK T da n k ra c1 ∧ aOK n k ra c1 xm1 kn1 pf pa) u.1 u.2.1 u.2.2.1 u.2.2.2.1 u.2.2.2.2.1 u.2.2.2.2.2) (fun u => (fun (r_ : Int32) (xm1 : Nat → Int32) (c1 : Nat → Int32) (kn1 : Nat) (md1 : Int32) (wn1 : Int32) => some (.int r_)) u.1 u.2.1 u.2.2.1 u.2.2.2.1 u.2.2.2.2.1 u.2.2.2.2.2) (fun u => (fun (r_ : Int32) (xm1 : Nat → Int32) (c1 : Nat → Int32) (kn1 : Nat) (md1 : Int32) (wn1 : Int32) => [cOb o ad (sa 0) (sb 0) tr (upd x 2 (nI kn1)), [(ad 2, .inl (D.1 106, 24, .inr (.inr (.inr (.inr (pRef pf))))))], thP D sa ((da, n, ra), (md1, wn1, od), c1), pstP D pf 24, T]) u.1 u.2.1 u.2.2.1 u.2.2.2.1 u.2.2.2.2.1 u.2.2.2.2.2) D A) 0 0 A := by
  refine z_entry (by decide +kernel) (Nat.le_of_ble_eq_true rfl) (fun pX eX sX mX argsX blX mtX cX QX hQX gX hAX hnm => ?_)
  refine z_eq (lv₂ := [(0, .ref o)]) (st₂ := []) ?_ rfl rfl
  have hS0 := hS
  have hk24 := hA.2.2.2.1
  rcases hS with ⟨rfl, rfl, h16, h17⟩ | ⟨⟨d, rfl⟩, hG⟩
  · skip
    refine z_ws [cOb o ad (sa 0) (sb 0) tr x, [(ad 2, .inl (D.1 106, 24, .inr (.inr (.inr (.inr (pRef pf))))))], [(sa 0, .inr (2, [.int (c 16), .int (c 1), .int (c 0), .int wn, .ref (sa 1), .ref (sa 2), .ref (sa 3), .ref (sa 4)]))], [(sa 1, .inr (16, [.int md, .ref (zEE D), .int (nI 0)]))], [(sa 2, .inl (D.1 100, 7, .inl (fun i_ => c (9 + i_))))], [(sa 3, .inl (D.1 100, 7, .inl (fun i_ => c (2 + i_))))], [(sa 4, .inl (D.1 100, 7, .inl od))], pstP D pf 24, T] (List.Perm.refl _) ?_
    refine z_aload_n (pc := 0) gX 0 dX0_undo_0 rfl rfl ?_
    refine z_get (pc := 1) gX (zI_ok gX hAX) (zm 0 rfl) (ci := 0) (C := RX0) (T := TX0) (N := 14) rfl in_X0 7 (by decide) q216 (fun _ h => h) (v := .int (x 2)) rfl dX0_undo_1 ?_
    refine z_top (nI kn) hx ?_
    refine z_if_ne (pc := 4) gX 10 dX0_undo_4 (by decide) (fun c4 => ?_) (fun c4 => ?_)
    · skip
      have hkn0 : 0 < kn := by rcases Nat.eq_zero_or_pos kn with h | h; exact absurd (by rw [h]; rfl) c4; exact h
      exact absurd (by rw [hA.2.2.1 rfl]; rfl) c4
    · skip
      have hkn0 : kn = 0 := (zn_eq (a := kn) (b := 0) (by omega) (by omega)).mp c4
      refine z_ldc (pc := 7) gX q833 dX0_undo_7 ?_
      refine z_ws [cOb o ad (sa 0) (sb 0) tr x, [(ad 2, .inl (D.1 106, 24, .inr (.inr (.inr (.inr (pRef pf))))))], thP D sa ((none, 0, ra), (md, wn, od), c), pstP D pf 24, T] (List.Perm.refl _) ?_
      exact z_rim gX hQX (-1000002, xm, c, kn, md, wn) (⟨by simp [mUndo, hkn0], hS0, hA⟩) rfl (by simp only [show upd x 2 (nI kn) = x by rw [← hx]; exact upd_self _ _]) (by first | decide | omega) (by first | decide | omega) dX0_undo_9
  · skip
    have hK := hG.k
    have hn1 := hG.1
    have hn7 := hG.2.1
    have h17 := hG.2.2.1
    have h16 := hG.2.2.2.1
    have hk4 := hG.2.2.2.2.1
    have hk12 := hG.2.2.2.2.2.1
    have hln := hG.2.2.2.2.2.2.1
    have hR := hG.2.2.2.2.2.2.2
    refine z_ws [cOb o ad (sa 0) (sb 0) tr x, [(ad 2, .inl (D.1 106, 24, .inr (.inr (.inr (.inr (pRef pf))))))], [(sa 0, .inr (2, [.int (c 16), .int (c 1), .int (c 0), .int wn, .ref (sa 1), .ref (sa 2), .ref (sa 3), .ref (sa 4)]))], [(sa 1, .inr (16, [.int md, .ref d, .int (nI n)]))], [(sa 2, .inl (D.1 100, 7, .inl (fun i_ => c (9 + i_))))], [(sa 3, .inl (D.1 100, 7, .inl (fun i_ => c (2 + i_))))], [(sa 4, .inl (D.1 100, 7, .inl od))], [(d, .inl (D.1 104, 10, .inr (.inr (.inr (.inr (rF ra n))))))], pstP D pf 24, T] (List.Perm.refl _) ?_
    refine z_aload_n (pc := 0) gX 0 dX0_undo_0 rfl rfl ?_
    refine z_get (pc := 1) gX (zI_ok gX hAX) (zm 0 rfl) (ci := 0) (C := RX0) (T := TX0) (N := 14) rfl in_X0 7 (by decide) q216 (fun _ h => h) (v := .int (x 2)) rfl dX0_undo_1 ?_
    refine z_top (nI kn) hx ?_
    refine z_if_ne (pc := 4) gX 10 dX0_undo_4 (by decide) (fun c4 => ?_) (fun c4 => ?_)
    · skip
      have hkn0 : 0 < kn := by rcases Nat.eq_zero_or_pos kn with h | h; exact absurd (by rw [h]; rfl) c4; exact h
      obtain ⟨pq, zd, ⟨zmd, zwn, zod⟩, zc, hq, hz1, hz2, hz3⟩ := hA.2.2.2.2.2 (kn - 1) (by omega)
      refine z_aload_n (pc := 10) gX 0 dX0_undo_10 rfl rfl ?_
      refine z_dup (pc := 11) gX dX0_undo_11 rfl ?_
      refine z_get (pc := 12) gX (zI_ok gX hAX) (zm 0 rfl) (ci := 0) (C := RX0) (T := TX0) (N := 14) rfl in_X0 7 (by decide) q216 (fun _ h => h) (v := .int (x 2)) rfl dX0_undo_12 ?_
      refine z_top (nI kn) hx ?_
      refine z_iconst (pc := 15) gX 1 dX0_undo_15 (by decide) ?_
      refine z_isub (pc := 16) gX dX0_undo_16 ?_
      refine z_top (nI (kn - 1)) (pk_sub (a := kn) (b := 1) (by omega)) ?_
      refine z_put (pc := 17) gX hAX 0 rfl (ci := 0) (C := RX0) (T := TX0) (N := 14) rfl in_X0 tyX0 tyX0_ok nmX0 7 (by decide) q216 (fun _ h => h) rfl (v := .int (nI (kn - 1))) rfl rfl (Nat.le_of_ble_eq_true rfl) [cOb o ad (sa 0) (sb 0) tr (upd x 2 (nI (kn - 1))), [(ad 2, .inl (D.1 106, 24, .inr (.inr (.inr (.inr (pRef pf))))))], [(sa 0, .inr (2, [.int (c 16), .int (c 1), .int (c 0), .int wn, .ref (sa 1), .ref (sa 2), .ref (sa 3), .ref (sa 4)]))], [(sa 1, .inr (16, [.int md, .ref d, .int (nI n)]))], [(sa 2, .inl (D.1 100, 7, .inl (fun i_ => c (9 + i_))))], [(sa 3, .inl (D.1 100, 7, .inl (fun i_ => c (2 + i_))))], [(sa 4, .inl (D.1 100, 7, .inl od))], [(d, .inl (D.1 104, 10, .inr (.inr (.inr (.inr (rF ra n))))))], pstP D pf 24, T] rfl dX0_undo_17 ?_
      refine z_ws [cOb o ad (sa 0) (sb 0) tr (upd x 2 (nI (kn - 1))), [(ad 2, .inl (D.1 106, 24, .inr (.inr (.inr (.inr (pRef pf))))))], [(sa 0, .inr (2, [.int (c 16), .int (c 1), .int (c 0), .int wn, .ref (sa 1), .ref (sa 2), .ref (sa 3), .ref (sa 4)]))], [(sa 1, .inr (16, [.int md, .ref d, .int (nI n)]))], [(sa 2, .inl (D.1 100, 7, .inl (fun i_ => c (9 + i_))))], [(sa 3, .inl (D.1 100, 7, .inl (fun i_ => c (2 + i_))))], [(sa 4, .inl (D.1 100, 7, .inl od))], [(d, .inl (D.1 104, 10, .inr (.inr (.inr (.inr (rF ra n))))))], thP D pq ((some zd, n, ra), (zmd, zwn, zod), zc), pstP D (setS pf (kn - 1) none) 24, T] (sg_perm [thP D pq ((some zd, n, ra), (zmd, zwn, zod), zc), pstP D (setS pf (kn - 1) none) 24] 8 rfl rfl (pst_o2 (by omega) hq)) ?_
      refine z_ws [cOb o ad (sa 0) (sb 0) tr (upd x 2 (nI (kn - 1))), [(ad 2, .inl (D.1 106, 24, .inr (.inr (.inr (.inr (pRef pf))))))], [(sa 0, .inr (2, [.int (c 16), .int (c 1), .int (c 0), .int wn, .ref (sa 1), .ref (sa 2), .ref (sa 3), .ref (sa 4)]))], [(sa 1, .inr (16, [.int md, .ref d, .int (nI n)]))], [(sa 2, .inl (D.1 100, 7, .inl (fun i_ => c (9 + i_))))], [(sa 3, .inl (D.1 100, 7, .inl (fun i_ => c (2 + i_))))], [(sa 4, .inl (D.1 100, 7, .inl od))], [(d, .inl (D.1 104, 10, .inr (.inr (.inr (.inr (rF ra n))))))], [(pq 0, .inr (2, [.int (zc 16), .int (zc 1), .int (zc 0), .int zwn, .ref (pq 1), .ref (pq 2), .ref (pq 3), .ref (pq 4)]))], [(pq 1, .inr (16, [.int zmd, .ref zd, .int (nI n)]))], [(pq 2, .inl (D.1 100, 7, .inl (fun i_ => zc (9 + i_))))], [(pq 3, .inl (D.1 100, 7, .inl (fun i_ => zc (2 + i_))))], [(pq 4, .inl (D.1 100, 7, .inl zod))], [(zd, .inl (D.1 104, 10, .inr (.inr (.inr (.inr (rF ra n))))))], pstP D (setS pf (kn - 1) none) 24, T] (List.Perm.refl _) ?_
      refine z_aload_n (pc := 20) gX 0 dX0_undo_20 rfl rfl ?_
      refine z_get (pc := 21) gX (zI_ok gX hAX) (zm 0 rfl) (ci := 0) (C := RX0) (T := TX0) (N := 14) rfl in_X0 4 (by decide) q213 (fun _ h => h) (v := .ref (sa 0)) rfl dX0_undo_21 ?_
      refine z_aload_n (pc := 24) gX 0 dX0_undo_24 rfl rfl ?_
      refine z_get (pc := 25) gX (zI_ok gX hAX) (zm 0 rfl) (ci := 0) (C := RX0) (T := TX0) (N := 14) rfl in_X0 6 (by decide) q215 (fun _ h => h) (v := .ref (ad 2)) rfl dX0_undo_25 ?_
      refine z_aload_n (pc := 28) gX 0 dX0_undo_28 rfl rfl ?_
      refine z_get (pc := 29) gX (zI_ok gX hAX) (zm 0 rfl) (ci := 0) (C := RX0) (T := TX0) (N := 14) rfl in_X0 7 (by decide) q216 (fun _ h => h) (v := .int (nI (kn - 1))) rfl dX0_undo_29 ?_
      refine z_ald (pc := 32) gX (zI_ok gX hAX) (j := (kn - 1)) (n := 24) (f := (pRef pf)) (zm 1 rfl) 6 rfl (by omega) (by decide) (pq 0) (pRef_i hq) dX0_undo_32 ?_
      refine z_cMV (pc := 33) gX hAX [.ref (pq 0)] [] [2, 3, 4, 5, 6, 7, 8, 9, 10, 11, 12, 13, 15] [0, 1, 14] (fun A1 => met_X2_becomeG l D B0 A1 pq (zc 16) (zc 1) (zc 0) zwn zmd zd n (fun i_ => zc (9 + i_)) (fun i_ => zc (2 + i_)) zod ra (fun r => zc (18 + r)) T sa (c 16) (c 1) (c 0) wn md (fun i_ => c (9 + i_)) (fun i_ => c (2 + i_)) od d n ra hn7 (by rw [show (fun r => zc (18 + r)) = (fun r => c (18 + r)) from funext fun r => hz2 (18 + r) (by omega)]; exact hR) hn7) q784 q785 q786 q49 q787 (zm 2 rfl) (ci := 2) rfl rfl hd_X2_become ⟨rfl, rfl⟩ ⟨(Nat.le_of_ble_eq_true rfl), (Nat.le_of_ble_eq_true rfl)⟩ rfl rfl (zpl 16 rfl (by decide +kernel)) rfl rfl (Nat.le_of_ble_eq_true rfl) ⟨(Nat.le_of_ble_eq_true rfl), (Nat.le_of_ble_eq_true rfl)⟩ dX0_undo_33 ?_
      intro u33 hu33
      obtain ⟨md1_33, rfl⟩ : ∃ z, z = u33 := ⟨_, rfl⟩
      refine z_re [13, 14, 0, 1, 2, 3, 4, 5, 6, 7, 8, 9, 10, 11, 15, 12] [cOb o ad (sa 0) (sb 0) tr (upd x 2 (nI (kn - 1))), [(ad 2, .inl (D.1 106, 24, .inr (.inr (.inr (.inr (pRef pf))))))], [(sa 0, .inr (2, [.int (zc 16), .int (zc 1), .int (zc 0), .int zwn, .ref (sa 1), .ref (sa 2), .ref (sa 3), .ref (sa 4)]))], [(sa 1, .inr (16, [.int md1_33, .ref d, .int (nI n)]))], [(sa 2, .inl (D.1 100, 7, .inl (fun i_ => zc (9 + i_))))], [(sa 3, .inl (D.1 100, 7, .inl (fun i_ => zc (2 + i_))))], [(sa 4, .inl (D.1 100, 7, .inl od))], [(d, .inl (D.1 104, 10, .inr (.inr (.inr (.inr (rF ra n))))))], [(pq 0, .inr (2, [.int (zc 16), .int (zc 1), .int (zc 0), .int zwn, .ref (pq 1), .ref (pq 2), .ref (pq 3), .ref (pq 4)]))], [(pq 1, .inr (16, [.int zmd, .ref zd, .int (nI n)]))], [(pq 2, .inl (D.1 100, 7, .inl (fun i_ => zc (9 + i_))))], [(pq 3, .inl (D.1 100, 7, .inl (fun i_ => zc (2 + i_))))], [(pq 4, .inl (D.1 100, 7, .inl zod))], [(zd, .inl (D.1 104, 10, .inr (.inr (.inr (.inr (rF ra n))))))], pstP D (setS pf (kn - 1) none) 24, T] rfl (zpl 16 rfl (by decide +kernel)) ?_
      refine z_eq (lv₂ := [(0, .ref o)]) (st₂ := [.ref (sa 0)]) ?_ rfl rfl
      refine z_ws [cOb o ad (sa 0) (sb 0) tr (upd x 2 (nI (kn - 1))), [(ad 2, .inl (D.1 106, 24, .inr (.inr (.inr (.inr (pRef pf))))))], [(sa 0, .inr (2, [.int (zc 16), .int (zc 1), .int (zc 0), .int zwn, .ref (sa 1), .ref (sa 2), .ref (sa 3), .ref (sa 4)]))], [(sa 1, .inr (16, [.int md1_33, .ref d, .int (nI n)]))], [(sa 2, .inl (D.1 100, 7, .inl (fun i_ => zc (9 + i_))))], [(sa 3, .inl (D.1 100, 7, .inl (fun i_ => zc (2 + i_))))], [(sa 4, .inl (D.1 100, 7, .inl od))], [(d, .inl (D.1 104, 10, .inr (.inr (.inr (.inr (rF ra n))))))], thP D pq ((some zd, n, ra), (zmd, zwn, zod), zc), pstP D (setS pf (kn - 1) none) 24, T] (List.Perm.refl _) ?_
      refine z_ws [cOb o ad (sa 0) (sb 0) tr (upd x 2 (nI (kn - 1))), [(ad 2, .inl (D.1 106, 24, .inr (.inr (.inr (.inr (pRef pf))))))], [(sa 0, .inr (2, [.int (zc 16), .int (zc 1), .int (zc 0), .int zwn, .ref (sa 1), .ref (sa 2), .ref (sa 3), .ref (sa 4)]))], [(sa 1, .inr (16, [.int md1_33, .ref d, .int (nI n)]))], [(sa 2, .inl (D.1 100, 7, .inl (fun i_ => zc (9 + i_))))], [(sa 3, .inl (D.1 100, 7, .inl (fun i_ => zc (2 + i_))))], [(sa 4, .inl (D.1 100, 7, .inl od))], [(d, .inl (D.1 104, 10, .inr (.inr (.inr (.inr (rF ra n))))))], pstP D pf 24, T] (gs_perm (pstP D pf 24) 8 2 rfl (pst_cs (by omega) hq)) ?_
      refine z_pop (pc := 36) gX dX0_undo_36 rfl ?_
      refine z_aload_n (pc := 37) gX 0 dX0_undo_37 rfl rfl ?_
      refine z_get (pc := 38) gX (zI_ok gX hAX) (zm 0 rfl) (ci := 0) (C := RX0) (T := TX0) (N := 14) rfl in_X0 7 (by decide) q216 (fun _ h => h) (v := .int (nI (kn - 1))) rfl dX0_undo_38 ?_
      refine z_ws [cOb o ad (sa 0) (sb 0) tr (upd x 2 (nI (kn - 1))), [(ad 2, .inl (D.1 106, 24, .inr (.inr (.inr (.inr (pRef pf))))))], thP D sa ((some d, n, ra), (md1_33, zwn, od), zc), pstP D pf 24, T] (List.Perm.refl _) ?_
      exact z_rim gX hQX (nI (kn - 1), upd xm 3 (nI (kn - 1)), zc, kn - 1, md1_33, zwn) (⟨by simp only [mUndo]; rw [if_neg (by omega), ← und_row hz1 hz2], und_ok hG hA hkn0 hz2 hz3⟩) rfl rfl (by first | decide | omega) (by first | decide | omega) dX0_undo_41
    · skip
      have hkn0 : kn = 0 := (zn_eq (a := kn) (b := 0) (by omega) (by omega)).mp c4
      refine z_ldc (pc := 7) gX q833 dX0_undo_7 ?_
      refine z_ws [cOb o ad (sa 0) (sb 0) tr x, [(ad 2, .inl (D.1 106, 24, .inr (.inr (.inr (.inr (pRef pf))))))], thP D sa ((some d, n, ra), (md, wn, od), c), pstP D pf 24, T] (List.Perm.refl _) ?_
      exact z_rim gX hQX (-1000002, xm, c, kn, md, wn) (⟨by simp [mUndo, hkn0], hS0, hA⟩) rfl (by simp only [show upd x 2 (nI kn) = x by rw [← hx]; exact upd_self _ _]) (by first | decide | omega) (by first | decide | omega) dX0_undo_9
theorem hd_X0_undo : zHd yX0_undo 0 := by unfold zHd; decide +kernel

set_option maxHeartbeats 4000000 in
theorem met_X0_image (l : Launch) (D : va_G) (B0 : Nat) (A : Nat → Prop) (o : Nat) (ad : Nat → Nat) (sa : Nat → Nat) (sb : Nat → Nat) (tr : Nat) (x : Nat → Int32) (da : Option Nat) (n : Nat) (ra : Nat → Nat) (md : Int32) (wn : Int32) (od : Nat → Int32) (c : Nat → Int32) (T : va_W) (k : Nat) (im : Nat → Int32) (kp : Nat → Int32) (jf : pF) (v : Int32) (hS : sOK T da n k ra c) (hnC : 0 < n → nW n c) (hI : imR T jf im kp) : Met l yX0_image (ws_ yX0_image cX0_image 2 (some .int)) (zRm 7 6 42) (va_Pc [.ref o, .int v] (zPre B0 D A [cOb o ad (sa 0) (sb 0) tr x, [(ad 3, .inl (D.1 106, 2, .inr (.inr (.inr (.inr (pRef jf))))))], thP D sa ((da, n, ra), (md, wn, od), c), pstP D jf 2, T])) (zQ (S := Int32 × (Nat → Int32) × (Nat → Int32) × pF) (fun u => (fun (r_ : Int32) (im1 : Nat → Int32) (kp1 : Nat → Int32) (jf1 : pF) => (r_, im1, kp1) = mImage c im kp v ∧ imR T jf1 im1 kp1) u.1 u.2.1 u.2.2.1 u.2.2.2) (fun u => (fun (r_ : Int32) (im1 : Nat → Int32) (kp1 : Nat → Int32) (jf1 : pF) => some (.int r_)) u.1 u.2.1 u.2.2.1 u.2.2.2) (fun u => (fun (r_ : Int32) (im1 : Nat → Int32) (kp1 : Nat → Int32) (jf1 : pF) => [cOb o ad (sa 0) (sb 0) tr x, [(ad 3, .inl (D.1 106, 2, .inr (.inr (.inr (.inr (pRef jf1))))))], thP D sa ((da, n, ra), (md, wn, od), c), pstP D jf1 2, T]) u.1 u.2.1 u.2.2.1 u.2.2.2) D A) 6 42 A := by
  refine z_entry (by decide +kernel) (Nat.le_of_ble_eq_true rfl) (fun pX eX sX mX argsX blX mtX cX QX hQX gX hAX hnm => ?_)
  refine z_eq (lv₂ := [(0, .ref o), (1, .int v)]) (st₂ := []) ?_ rfl rfl
  rcases hS with ⟨rfl, rfl, h16, h17⟩ | ⟨⟨d, rfl⟩, hG⟩
  · skip
    refine z_ws [cOb o ad (sa 0) (sb 0) tr x, [(ad 3, .inl (D.1 106, 2, .inr (.inr (.inr (.inr (pRef jf))))))], [(sa 0, .inr (2, [.int (c 16), .int (c 1), .int (c 0), .int wn, .ref (sa 1), .ref (sa 2), .ref (sa 3), .ref (sa 4)]))], [(sa 1, .inr (16, [.int md, .ref (zEE D), .int (nI 0)]))], [(sa 2, .inl (D.1 100, 7, .inl (fun i_ => c (9 + i_))))], [(sa 3, .inl (D.1 100, 7, .inl (fun i_ => c (2 + i_))))], [(sa 4, .inl (D.1 100, 7, .inl od))], pstP D jf 2, T] (List.Perm.refl _) ?_
    refine z_iload_n (pc := 0) gX 1 dX0_image_0 rfl rfl ?_
    refine z_i2l (pc := 1) gX dX0_image_1 ?_
    refine z_lconst (pc := 2) gX 0 dX0_image_2 rfl ?_
    refine z_lconst (pc := 3) gX 1 dX0_image_3 rfl ?_
    refine z_cOS (pc := 4) gX (zI_ok gX hAX) [.long v.toInt64, .long 0, .long 1] [] [] (met_X0_isIn l D B0 v.toInt64 0 1 ) q346 q347 q47 q348 hd_X0_isIn ⟨rfl, rfl⟩ ⟨(Nat.le_of_ble_eq_true rfl), (Nat.le_of_ble_eq_true rfl)⟩ rfl rfl rfl (Nat.le_of_ble_eq_true rfl) ⟨(Nat.le_of_ble_eq_true rfl), (Nat.le_of_ble_eq_true rfl)⟩ dX0_image_4 ?_
    intro _ hu4
    refine z_eq (lv₂ := [(0, .ref o), (1, .int v)]) (st₂ := [.int (bI (lIn v.toInt64 0 1))]) ?_ rfl rfl
    refine z_top (bI (mIn v 0 1)) (congrArg bI (lIn_eq rfl (by decide) (by decide))) ?_
    refine z_if_ne (pc := 7) gX 13 dX0_image_7 (by decide) (fun c7 => ?_) (fun c7 => ?_)
    · skip
      have k7 : (mIn v 0 1) = true := bI_ne0 c7
      obtain ⟨i, hi, rfl⟩ := mIn_nat k7 1 (by decide)
      refine z_aload_n (pc := 13) gX 0 dX0_image_13 rfl rfl ?_
      refine z_cOV (pc := 14) gX (zI_ok gX hAX) [] [] [0, 2] (met_X0_isThere l D B0 o ad sa sb tr x (c 16) (c 1) (c 0) wn ) q829 q831 qs18 q47 q832 (zm 0 rfl) (ci := 0) rfl rfl hd_X0_isThere ⟨rfl, rfl⟩ ⟨(Nat.le_of_ble_eq_true rfl), (Nat.le_of_ble_eq_true rfl)⟩ rfl rfl rfl (Nat.le_of_ble_eq_true rfl) ⟨(Nat.le_of_ble_eq_true rfl), (Nat.le_of_ble_eq_true rfl)⟩ dX0_image_14 ?_
      intro _ hu14
      refine z_eq (lv₂ := [(0, .ref o), (1, .int (nI i))]) (st₂ := [.int (bI (decide (0 < (c 16))))]) ?_ rfl rfl
      refine z_if_ne (pc := 17) gX 23 dX0_image_17 (by decide) (fun c17 => ?_) (fun c17 => ?_)
      · skip
        have k17 : (decide (0 < (c 16))) = true := bI_ne0 c17
        exact absurd k17 (by rw [h16]; decide)
      · skip
        have k17 : (decide (0 < (c 16))) = false := bI_eq0 c17
        refine z_ldc (pc := 20) gX q833 dX0_image_20 ?_
        refine z_ws [cOb o ad (sa 0) (sb 0) tr x, [(ad 3, .inl (D.1 106, 2, .inr (.inr (.inr (.inr (pRef jf))))))], thP D sa ((none, 0, ra), (md, wn, od), c), pstP D jf 2, T] (List.Perm.refl _) ?_
        exact z_rim gX hQX ((-1000002), im, kp, jf) (⟨by simp [mImage, k7, h17], hI⟩) rfl rfl (by first | decide | omega) (by first | decide | omega) dX0_image_22
    · skip
      have k7 : (mIn v 0 1) = false := bI_eq0 c7
      refine z_ldc (pc := 10) gX q350 dX0_image_10 ?_
      refine z_ws [cOb o ad (sa 0) (sb 0) tr x, [(ad 3, .inl (D.1 106, 2, .inr (.inr (.inr (.inr (pRef jf))))))], thP D sa ((none, 0, ra), (md, wn, od), c), pstP D jf 2, T] (List.Perm.refl _) ?_
      exact z_rim gX hQX ((-1000001), im, kp, jf) (⟨by simp [mImage, k7], hI⟩) rfl rfl (by first | decide | omega) (by first | decide | omega) dX0_image_12
  · skip
    have hK := hG.k
    have hn1 := hG.1
    have hn7 := hG.2.1
    have h17 := hG.2.2.1
    have h16 := hG.2.2.2.1
    have hk4 := hG.2.2.2.2.1
    have hk12 := hG.2.2.2.2.2.1
    have hln := hG.2.2.2.2.2.2.1
    have hR := hG.2.2.2.2.2.2.2
    refine z_ws [cOb o ad (sa 0) (sb 0) tr x, [(ad 3, .inl (D.1 106, 2, .inr (.inr (.inr (.inr (pRef jf))))))], [(sa 0, .inr (2, [.int (c 16), .int (c 1), .int (c 0), .int wn, .ref (sa 1), .ref (sa 2), .ref (sa 3), .ref (sa 4)]))], [(sa 1, .inr (16, [.int md, .ref d, .int (nI n)]))], [(sa 2, .inl (D.1 100, 7, .inl (fun i_ => c (9 + i_))))], [(sa 3, .inl (D.1 100, 7, .inl (fun i_ => c (2 + i_))))], [(sa 4, .inl (D.1 100, 7, .inl od))], [(d, .inl (D.1 104, 10, .inr (.inr (.inr (.inr (rF ra n))))))], pstP D jf 2, T] (List.Perm.refl _) ?_
    refine z_iload_n (pc := 0) gX 1 dX0_image_0 rfl rfl ?_
    refine z_i2l (pc := 1) gX dX0_image_1 ?_
    refine z_lconst (pc := 2) gX 0 dX0_image_2 rfl ?_
    refine z_lconst (pc := 3) gX 1 dX0_image_3 rfl ?_
    refine z_cOS (pc := 4) gX (zI_ok gX hAX) [.long v.toInt64, .long 0, .long 1] [] [] (met_X0_isIn l D B0 v.toInt64 0 1 ) q346 q347 q47 q348 hd_X0_isIn ⟨rfl, rfl⟩ ⟨(Nat.le_of_ble_eq_true rfl), (Nat.le_of_ble_eq_true rfl)⟩ rfl rfl rfl (Nat.le_of_ble_eq_true rfl) ⟨(Nat.le_of_ble_eq_true rfl), (Nat.le_of_ble_eq_true rfl)⟩ dX0_image_4 ?_
    intro _ hu4
    refine z_eq (lv₂ := [(0, .ref o), (1, .int v)]) (st₂ := [.int (bI (lIn v.toInt64 0 1))]) ?_ rfl rfl
    refine z_top (bI (mIn v 0 1)) (congrArg bI (lIn_eq rfl (by decide) (by decide))) ?_
    refine z_if_ne (pc := 7) gX 13 dX0_image_7 (by decide) (fun c7 => ?_) (fun c7 => ?_)
    · skip
      have k7 : (mIn v 0 1) = true := bI_ne0 c7
      obtain ⟨i, hi, rfl⟩ := mIn_nat k7 1 (by decide)
      refine z_aload_n (pc := 13) gX 0 dX0_image_13 rfl rfl ?_
      refine z_cOV (pc := 14) gX (zI_ok gX hAX) [] [] [0, 2] (met_X0_isThere l D B0 o ad sa sb tr x (c 16) (c 1) (c 0) wn ) q829 q831 qs18 q47 q832 (zm 0 rfl) (ci := 0) rfl rfl hd_X0_isThere ⟨rfl, rfl⟩ ⟨(Nat.le_of_ble_eq_true rfl), (Nat.le_of_ble_eq_true rfl)⟩ rfl rfl rfl (Nat.le_of_ble_eq_true rfl) ⟨(Nat.le_of_ble_eq_true rfl), (Nat.le_of_ble_eq_true rfl)⟩ dX0_image_14 ?_
      intro _ hu14
      refine z_eq (lv₂ := [(0, .ref o), (1, .int (nI i))]) (st₂ := [.int (bI (decide (0 < (c 16))))]) ?_ rfl rfl
      refine z_if_ne (pc := 17) gX 23 dX0_image_17 (by decide) (fun c17 => ?_) (fun c17 => ?_)
      · skip
        have k17 : (decide (0 < (c 16))) = true := bI_ne0 c17
        refine z_aload_n (pc := 23) gX 0 dX0_image_23 rfl rfl ?_
        refine z_get (pc := 24) gX (zI_ok gX hAX) (zm 0 rfl) (ci := 0) (C := RX0) (T := TX0) (N := 14) rfl in_X0 8 (by decide) q217 (fun _ h => h) (v := .ref (ad 3)) rfl dX0_image_24 ?_
        refine z_iload_n (pc := 27) gX 1 dX0_image_27 rfl rfl ?_
        rcases hq : jf i with _ | ⟨pq, ⟨za, zn, zra⟩, ⟨zmd, zwn, zod⟩, zc⟩
        · skip
          refine z_ws [cOb o ad (sa 0) (sb 0) tr x, [(ad 3, .inl (D.1 106, 2, .inr (.inr (.inr (.inr (pRef jf))))))], [(sa 0, .inr (2, [.int (c 16), .int (c 1), .int (c 0), .int wn, .ref (sa 1), .ref (sa 2), .ref (sa 3), .ref (sa 4)]))], [(sa 1, .inr (16, [.int md, .ref d, .int (nI n)]))], [(sa 2, .inl (D.1 100, 7, .inl (fun i_ => c (9 + i_))))], [(sa 3, .inl (D.1 100, 7, .inl (fun i_ => c (2 + i_))))], [(sa 4, .inl (D.1 100, 7, .inl od))], [(d, .inl (D.1 104, 10, .inr (.inr (.inr (.inr (rF ra n))))))], pstP D (setS jf i none) 2, T] (sg_perm [pstP D (setS jf i none) 2] 8 rfl rfl (pst_o1 (by omega) hq)) ?_
          refine z_aldN (pc := 28) gX (zI_ok gX hAX) (j := i) (n := 2) (f := (pRef jf)) (zm 1 rfl) 6 rfl (by omega) (by decide) (pRef_n hq) dX0_image_28 ?_
          refine z_ifnonnullN (pc := 29) gX dX0_image_29 ?_
          refine z_aload_n (pc := 32) gX 0 dX0_image_32 rfl rfl ?_
          refine z_get (pc := 33) gX (zI_ok gX hAX) (zm 0 rfl) (ci := 0) (C := RX0) (T := TX0) (N := 14) rfl in_X0 8 (by decide) q217 (fun _ h => h) (v := .ref (ad 3)) rfl dX0_image_33 ?_
          refine z_iload_n (pc := 36) gX 1 dX0_image_36 rfl rfl ?_
          refine z_new (pc := 37) gX hAX (ci := 2) (C := RX2) (T := TX2) (N := 8) rfl in_X2 tyX2 tyX2_ok q111 q112 q49 [.int 0, .int 0, .int 0, .int 0, .null, .null, .null, .null] (by decide +kernel) (by decide) (by decide) dX0_image_37 (fun q37 => ?_)
          refine z_norm [cOb o ad (sa 0) (sb 0) tr x, [(ad 3, .inl (D.1 106, 2, .inr (.inr (.inr (.inr (pRef jf))))))], [(sa 0, .inr (2, [.int (c 16), .int (c 1), .int (c 0), .int wn, .ref (sa 1), .ref (sa 2), .ref (sa 3), .ref (sa 4)]))], [(sa 1, .inr (16, [.int md, .ref d, .int (nI n)]))], [(sa 2, .inl (D.1 100, 7, .inl (fun i_ => c (9 + i_))))], [(sa 3, .inl (D.1 100, 7, .inl (fun i_ => c (2 + i_))))], [(sa 4, .inl (D.1 100, 7, .inl od))], [(d, .inl (D.1 104, 10, .inr (.inr (.inr (.inr (rF ra n))))))], pstP D (setS jf i none) 2, T, [(q37, .inr (2, [.int 0, .int 0, .int 0, .int 0, .null, .null, .null, .null]))]] 1 8 ?_ rfl rfl rfl
          refine z_re [0, 1, 2, 3, 4, 5, 6, 7, 10, 8, 9] [cOb o ad (sa 0) (sb 0) tr x, [(ad 3, .inl (D.1 106, 2, .inr (.inr (.inr (.inr (pRef jf))))))], [(sa 0, .inr (2, [.int (c 16), .int (c 1), .int (c 0), .int wn, .ref (sa 1), .ref (sa 2), .ref (sa 3), .ref (sa 4)]))], [(sa 1, .inr (16, [.int md, .ref d, .int (nI n)]))], [(sa 2, .inl (D.1 100, 7, .inl (fun i_ => c (9 + i_))))], [(sa 3, .inl (D.1 100, 7, .inl (fun i_ => c (2 + i_))))], [(sa 4, .inl (D.1 100, 7, .inl od))], [(d, .inl (D.1 104, 10, .inr (.inr (.inr (.inr (rF ra n))))))], [(q37, .inr (2, [.int 0, .int 0, .int 0, .int 0, .null, .null, .null, .null]))], pstP D (setS jf i none) 2, T] rfl (zpl 11 rfl (by decide +kernel)) ?_
          refine z_dup (pc := 40) gX dX0_image_40 rfl ?_
          refine z_cMIN (pc := 41) gX hAX [] [.ref q37, .int (nI i), .ref (ad 3)] [8] [0, 1, 2, 3, 4, 5, 6, 7, 9, 10] (fun A1 => met_X2_init l D B0 A1 q37 ) (zm 2 rfl) q114 q49 rfl hd_X2_init q115 ⟨rfl, rfl⟩ ⟨(Nat.le_of_ble_eq_true rfl), (Nat.le_of_ble_eq_true rfl)⟩ rfl rfl (zpl 11 rfl (by decide +kernel)) rfl rfl (Nat.le_of_ble_eq_true rfl) ⟨(Nat.le_of_ble_eq_true rfl), (Nat.le_of_ble_eq_true rfl)⟩ dX0_image_41 ?_
          intro u41 hu41
          obtain ⟨a1_41, a2_41, a3_41, a4_41⟩ := u41
          refine z_re [5, 6, 7, 8, 9, 10, 11, 12, 0, 1, 2, 3, 4, 13, 14] [cOb o ad (sa 0) (sb 0) tr x, [(ad 3, .inl (D.1 106, 2, .inr (.inr (.inr (.inr (pRef jf))))))], [(sa 0, .inr (2, [.int (c 16), .int (c 1), .int (c 0), .int wn, .ref (sa 1), .ref (sa 2), .ref (sa 3), .ref (sa 4)]))], [(sa 1, .inr (16, [.int md, .ref d, .int (nI n)]))], [(sa 2, .inl (D.1 100, 7, .inl (fun i_ => c (9 + i_))))], [(sa 3, .inl (D.1 100, 7, .inl (fun i_ => c (2 + i_))))], [(sa 4, .inl (D.1 100, 7, .inl od))], [(d, .inl (D.1 104, 10, .inr (.inr (.inr (.inr (rF ra n))))))], [(q37, .inr (2, [.int 0, .int 0, .int 0, .int 0, .ref a1_41, .ref a2_41, .ref a3_41, .ref a4_41]))], [(a1_41, .inr (16, [.int 0, .ref (zEE D), .int (nI 0)]))], [(a2_41, .inl (D.1 100, 7, .inl (fun _ => 0)))], [(a3_41, .inl (D.1 100, 7, .inl (fun _ => 0)))], [(a4_41, .inl (D.1 100, 7, .inl (fun _ => 0)))], pstP D (setS jf i none) 2, T] rfl (zpl 15 rfl (by decide +kernel)) ?_
          refine z_norm [cOb o ad (sa 0) (sb 0) tr x, [(ad 3, .inl (D.1 106, 2, .inr (.inr (.inr (.inr (pRef jf))))))], [(sa 0, .inr (2, [.int (c 16), .int (c 1), .int (c 0), .int wn, .ref (sa 1), .ref (sa 2), .ref (sa 3), .ref (sa 4)]))], [(sa 1, .inr (16, [.int md, .ref d, .int (nI n)]))], [(sa 2, .inl (D.1 100, 7, .inl (fun i_ => c (9 + i_))))], [(sa 3, .inl (D.1 100, 7, .inl (fun i_ => c (2 + i_))))], [(sa 4, .inl (D.1 100, 7, .inl od))], [(d, .inl (D.1 104, 10, .inr (.inr (.inr (.inr (rF ra n))))))], [(q37, .inr (2, [.int 0, .int 0, .int 0, .int 0, .ref a1_41, .ref a2_41, .ref a3_41, .ref a4_41]))], [(a1_41, .inr (16, [.int 0, .ref (zEE D), .int (nI 0)]))], [(a2_41, .inl (D.1 100, 7, .inl (fun _ => 0)))], [(a3_41, .inl (D.1 100, 7, .inl (fun _ => 0)))], [(a4_41, .inl (D.1 100, 7, .inl (fun _ => 0)))], pstP D (setS jf i none) 2, T] 5 32 ?_ rfl rfl rfl
          refine z_eq (lv₂ := [(0, .ref o), (1, .int (nI i))]) (st₂ := [.ref q37, .int (nI i), .ref (ad 3)]) ?_ rfl rfl
          obtain ⟨pq, rfl, rfl, rfl, rfl, rfl⟩ : ∃ pq : Nat → Nat, pq 0 = q37 ∧ pq 1 = a1_41 ∧ pq 2 = a2_41 ∧ pq 3 = a3_41 ∧ pq 4 = a4_41 := ⟨ad5 q37 a1_41 a2_41 a3_41 a4_41, rfl, rfl, rfl, rfl, rfl⟩
          refine z_ast (pc := 44) gX hAX 1 (j := i) (n := 2) (f := (pRef jf)) rfl 6 rfl (by omega) (by decide) (zm 8 rfl) (show vwCl[2]? = _ from rfl) (fun comp c0 h1 h2 => vb_asgS comp c0 h1 h2) [cOb o ad (sa 0) (sb 0) tr x, [(ad 3, .inl (D.1 106, 2, .inr (.inr (.inr (.inr (va_up (pRef jf) i (some (pq 0))))))))], [(sa 0, .inr (2, [.int (c 16), .int (c 1), .int (c 0), .int wn, .ref (sa 1), .ref (sa 2), .ref (sa 3), .ref (sa 4)]))], [(sa 1, .inr (16, [.int md, .ref d, .int (nI n)]))], [(sa 2, .inl (D.1 100, 7, .inl (fun i_ => c (9 + i_))))], [(sa 3, .inl (D.1 100, 7, .inl (fun i_ => c (2 + i_))))], [(sa 4, .inl (D.1 100, 7, .inl od))], [(d, .inl (D.1 104, 10, .inr (.inr (.inr (.inr (rF ra n))))))], [(pq 0, .inr (2, [.int 0, .int 0, .int 0, .int 0, .ref (pq 1), .ref (pq 2), .ref (pq 3), .ref (pq 4)]))], [(pq 1, .inr (16, [.int 0, .ref (zEE D), .int (nI 0)]))], [(pq 2, .inl (D.1 100, 7, .inl (fun _ => 0)))], [(pq 3, .inl (D.1 100, 7, .inl (fun _ => 0)))], [(pq 4, .inl (D.1 100, 7, .inl (fun _ => 0)))], pstP D (setS jf i none) 2, T] rfl dX0_image_44 ?_
          refine z_aload_n (pc := 45) gX 0 dX0_image_45 rfl rfl ?_
          refine z_get (pc := 46) gX (zI_ok gX hAX) (zm 0 rfl) (ci := 0) (C := RX0) (T := TX0) (N := 14) rfl in_X0 8 (by decide) q217 (fun _ h => h) (v := .ref (ad 3)) rfl dX0_image_46 ?_
          refine z_iload_n (pc := 49) gX 1 dX0_image_49 rfl rfl ?_
          refine z_ald (pc := 50) gX (zI_ok gX hAX) (j := i) (n := 2) (f := (va_up (pRef jf) i (some (pq 0)))) (zm 1 rfl) 6 rfl (by omega) (by decide) (pq 0) up_s dX0_image_50 ?_
          refine z_aload_n (pc := 51) gX 0 dX0_image_51 rfl rfl ?_
          refine z_get (pc := 52) gX (zI_ok gX hAX) (zm 0 rfl) (ci := 0) (C := RX0) (T := TX0) (N := 14) rfl in_X0 4 (by decide) q213 (fun _ h => h) (v := .ref (sa 0)) rfl dX0_image_52 ?_
          refine z_cMV (pc := 55) gX hAX [.ref (sa 0)] [] [8, 9, 10, 11, 12, 2, 3, 4, 5, 6, 7, 14] [0, 1, 13] (fun A1 => met_X2_becomeF l D B0 A1 sa (c 16) (c 1) (c 0) wn md d n (fun i_ => c (9 + i_)) (fun i_ => c (2 + i_)) od ra (fun r => c (18 + r)) T pq 0 0 0 0 0 (fun _ => 0) (fun _ => 0) (fun _ => 0) hn7 hR hn1) q784 q785 q786 q49 q787 (zm 8 rfl) (ci := 2) rfl rfl hd_X2_become ⟨rfl, rfl⟩ ⟨(Nat.le_of_ble_eq_true rfl), (Nat.le_of_ble_eq_true rfl)⟩ rfl rfl (zpl 15 rfl (by decide +kernel)) rfl rfl (Nat.le_of_ble_eq_true rfl) ⟨(Nat.le_of_ble_eq_true rfl), (Nat.le_of_ble_eq_true rfl)⟩ dX0_image_55 ?_
          intro u55 hu55
          obtain ⟨md1_55, zd_55⟩ := u55
          refine z_re [13, 14, 5, 6, 7, 8, 9, 10, 0, 1, 2, 3, 4, 11, 12, 15] [cOb o ad (sa 0) (sb 0) tr x, [(ad 3, .inl (D.1 106, 2, .inr (.inr (.inr (.inr (va_up (pRef jf) i (some (pq 0))))))))], [(sa 0, .inr (2, [.int (c 16), .int (c 1), .int (c 0), .int wn, .ref (sa 1), .ref (sa 2), .ref (sa 3), .ref (sa 4)]))], [(sa 1, .inr (16, [.int md, .ref d, .int (nI n)]))], [(sa 2, .inl (D.1 100, 7, .inl (fun i_ => c (9 + i_))))], [(sa 3, .inl (D.1 100, 7, .inl (fun i_ => c (2 + i_))))], [(sa 4, .inl (D.1 100, 7, .inl od))], [(d, .inl (D.1 104, 10, .inr (.inr (.inr (.inr (rF ra n))))))], [(pq 0, .inr (2, [.int (c 16), .int (c 1), .int (c 0), .int wn, .ref (pq 1), .ref (pq 2), .ref (pq 3), .ref (pq 4)]))], [(pq 1, .inr (16, [.int md1_55, .ref zd_55, .int (nI n)]))], [(pq 2, .inl (D.1 100, 7, .inl (fun i_ => c (9 + i_))))], [(pq 3, .inl (D.1 100, 7, .inl (fun i_ => c (2 + i_))))], [(pq 4, .inl (D.1 100, 7, .inl (fun _ => 0)))], [(zd_55, .inl (D.1 104, 10, .inr (.inr (.inr (.inr (rF ra n))))))], T, pstP D (setS jf i none) 2] rfl (zpl 16 rfl (by decide +kernel)) ?_
          refine z_norm [cOb o ad (sa 0) (sb 0) tr x, [(ad 3, .inl (D.1 106, 2, .inr (.inr (.inr (.inr (va_up (pRef jf) i (some (pq 0))))))))], [(sa 0, .inr (2, [.int (c 16), .int (c 1), .int (c 0), .int wn, .ref (sa 1), .ref (sa 2), .ref (sa 3), .ref (sa 4)]))], [(sa 1, .inr (16, [.int md, .ref d, .int (nI n)]))], [(sa 2, .inl (D.1 100, 7, .inl (fun i_ => c (9 + i_))))], [(sa 3, .inl (D.1 100, 7, .inl (fun i_ => c (2 + i_))))], [(sa 4, .inl (D.1 100, 7, .inl od))], [(d, .inl (D.1 104, 10, .inr (.inr (.inr (.inr (rF ra n))))))], [(pq 0, .inr (2, [.int (c 16), .int (c 1), .int (c 0), .int wn, .ref (pq 1), .ref (pq 2), .ref (pq 3), .ref (pq 4)]))], [(pq 1, .inr (16, [.int md1_55, .ref zd_55, .int (nI n)]))], [(pq 2, .inl (D.1 100, 7, .inl (fun i_ => c (9 + i_))))], [(pq 3, .inl (D.1 100, 7, .inl (fun i_ => c (2 + i_))))], [(pq 4, .inl (D.1 100, 7, .inl (fun _ => 0)))], [(zd_55, .inl (D.1 104, 10, .inr (.inr (.inr (.inr (rF ra n))))))], T, pstP D (setS jf i none) 2] 6 42 ?_ rfl rfl rfl
          refine z_eq (lv₂ := [(0, .ref o), (1, .int (nI i))]) (st₂ := [.ref (pq 0)]) ?_ rfl rfl
          refine z_weq [cOb o ad (sa 0) (sb 0) tr x, [(ad 3, .inl (D.1 106, 2, .inr (.inr (.inr (.inr (pRef (setS jf i (some (pq, ((some zd_55, n, ra), (md1_55, wn, fun _ => 0), c))))))))))], [(sa 0, .inr (2, [.int (c 16), .int (c 1), .int (c 0), .int wn, .ref (sa 1), .ref (sa 2), .ref (sa 3), .ref (sa 4)]))], [(sa 1, .inr (16, [.int md, .ref d, .int (nI n)]))], [(sa 2, .inl (D.1 100, 7, .inl (fun i_ => c (9 + i_))))], [(sa 3, .inl (D.1 100, 7, .inl (fun i_ => c (2 + i_))))], [(sa 4, .inl (D.1 100, 7, .inl od))], [(d, .inl (D.1 104, 10, .inr (.inr (.inr (.inr (rF ra n))))))], [(pq 0, .inr (2, [.int (c 16), .int (c 1), .int (c 0), .int wn, .ref (pq 1), .ref (pq 2), .ref (pq 3), .ref (pq 4)]))], [(pq 1, .inr (16, [.int md1_55, .ref zd_55, .int (nI n)]))], [(pq 2, .inl (D.1 100, 7, .inl (fun i_ => c (9 + i_))))], [(pq 3, .inl (D.1 100, 7, .inl (fun i_ => c (2 + i_))))], [(pq 4, .inl (D.1 100, 7, .inl (fun _ => 0)))], [(zd_55, .inl (D.1 104, 10, .inr (.inr (.inr (.inr (rF ra n))))))], T, pstP D (setS jf i none) 2] (by rw [← pRef_set]) ?_
          refine z_ws [cOb o ad (sa 0) (sb 0) tr x, [(ad 3, .inl (D.1 106, 2, .inr (.inr (.inr (.inr (pRef (setS jf i (some (pq, ((some zd_55, n, ra), (md1_55, wn, fun _ => 0), c))))))))))], [(sa 0, .inr (2, [.int (c 16), .int (c 1), .int (c 0), .int wn, .ref (sa 1), .ref (sa 2), .ref (sa 3), .ref (sa 4)]))], [(sa 1, .inr (16, [.int md, .ref d, .int (nI n)]))], [(sa 2, .inl (D.1 100, 7, .inl (fun i_ => c (9 + i_))))], [(sa 3, .inl (D.1 100, 7, .inl (fun i_ => c (2 + i_))))], [(sa 4, .inl (D.1 100, 7, .inl od))], [(d, .inl (D.1 104, 10, .inr (.inr (.inr (.inr (rF ra n))))))], thP D pq ((some zd_55, n, ra), (md1_55, wn, fun _ => 0), c), T, pstP D (setS jf i none) 2] (List.Perm.refl _) ?_
          refine z_re [0, 1, 2, 3, 4, 5, 6, 7, 8, 10, 9] [cOb o ad (sa 0) (sb 0) tr x, [(ad 3, .inl (D.1 106, 2, .inr (.inr (.inr (.inr (pRef (setS jf i (some (pq, ((some zd_55, n, ra), (md1_55, wn, fun _ => 0), c))))))))))], [(sa 0, .inr (2, [.int (c 16), .int (c 1), .int (c 0), .int wn, .ref (sa 1), .ref (sa 2), .ref (sa 3), .ref (sa 4)]))], [(sa 1, .inr (16, [.int md, .ref d, .int (nI n)]))], [(sa 2, .inl (D.1 100, 7, .inl (fun i_ => c (9 + i_))))], [(sa 3, .inl (D.1 100, 7, .inl (fun i_ => c (2 + i_))))], [(sa 4, .inl (D.1 100, 7, .inl od))], [(d, .inl (D.1 104, 10, .inr (.inr (.inr (.inr (rF ra n))))))], thP D pq ((some zd_55, n, ra), (md1_55, wn, fun _ => 0), c), pstP D (setS jf i none) 2, T] rfl (zpl 11 rfl (by decide +kernel)) ?_
          refine z_ws [cOb o ad (sa 0) (sb 0) tr x, [(ad 3, .inl (D.1 106, 2, .inr (.inr (.inr (.inr (pRef (setS jf i (some (pq, ((some zd_55, n, ra), (md1_55, wn, fun _ => 0), c))))))))))], [(sa 0, .inr (2, [.int (c 16), .int (c 1), .int (c 0), .int wn, .ref (sa 1), .ref (sa 2), .ref (sa 3), .ref (sa 4)]))], [(sa 1, .inr (16, [.int md, .ref d, .int (nI n)]))], [(sa 2, .inl (D.1 100, 7, .inl (fun i_ => c (9 + i_))))], [(sa 3, .inl (D.1 100, 7, .inl (fun i_ => c (2 + i_))))], [(sa 4, .inl (D.1 100, 7, .inl od))], [(d, .inl (D.1 104, 10, .inr (.inr (.inr (.inr (rF ra n))))))], pstP D (setS jf i (some (pq, ((some zd_55, n, ra), (md1_55, wn, fun _ => 0), c)))) 2, T] (gs_perm (pstP D (setS jf i (some (pq, ((some zd_55, n, ra), (md1_55, wn, fun _ => 0), c)))) 2) 8 2 rfl (pst_c (by omega))) ?_
          refine z_pop (pc := 58) gX dX0_image_58 rfl ?_
          refine z_iconst (pc := 59) gX 1 dX0_image_59 (by decide) ?_
          refine z_ws [cOb o ad (sa 0) (sb 0) tr x, [(ad 3, .inl (D.1 106, 2, .inr (.inr (.inr (.inr (pRef (setS jf i (some (pq, ((some zd_55, n, ra), (md1_55, wn, fun _ => 0), c))))))))))], thP D sa ((some d, n, ra), (md, wn, od), c), pstP D (setS jf i (some (pq, ((some zd_55, n, ra), (md1_55, wn, fun _ => 0), c)))) 2, T] (List.Perm.refl _) ?_
          exact z_rim gX hQX (1, cpT im (25 * i) c 25, upd kp i (vp_nar .boolean 1), setS jf i (some (pq, ((some zd_55, n, ra), (md1_55, wn, fun _ => 0), c)))) (⟨by simp [mImage, k7, poG hG, nI_clamp (show i < 2 ^ 31 by omega)], hI.set (by omega) hG (hnC (by omega))⟩) rfl rfl (by first | decide | omega) (by first | decide | omega) dX0_image_60
        · skip
          obtain ⟨⟨zd, hzd⟩, hz7⟩ := hI.1 i _ hq
          have hzd : za = some zd := hzd
          have hz7 : zn ≤ 7 := hz7
          subst hzd
          refine z_ws [cOb o ad (sa 0) (sb 0) tr x, [(ad 3, .inl (D.1 106, 2, .inr (.inr (.inr (.inr (pRef jf))))))], [(sa 0, .inr (2, [.int (c 16), .int (c 1), .int (c 0), .int wn, .ref (sa 1), .ref (sa 2), .ref (sa 3), .ref (sa 4)]))], [(sa 1, .inr (16, [.int md, .ref d, .int (nI n)]))], [(sa 2, .inl (D.1 100, 7, .inl (fun i_ => c (9 + i_))))], [(sa 3, .inl (D.1 100, 7, .inl (fun i_ => c (2 + i_))))], [(sa 4, .inl (D.1 100, 7, .inl od))], [(d, .inl (D.1 104, 10, .inr (.inr (.inr (.inr (rF ra n))))))], thP D pq ((some zd, zn, zra), (zmd, zwn, zod), zc), pstP D (setS jf i none) 2, T] (sg_perm [thP D pq ((some zd, zn, zra), (zmd, zwn, zod), zc), pstP D (setS jf i none) 2] 8 rfl rfl (pst_o2 (by omega) hq)) ?_
          refine z_ws [cOb o ad (sa 0) (sb 0) tr x, [(ad 3, .inl (D.1 106, 2, .inr (.inr (.inr (.inr (pRef jf))))))], [(sa 0, .inr (2, [.int (c 16), .int (c 1), .int (c 0), .int wn, .ref (sa 1), .ref (sa 2), .ref (sa 3), .ref (sa 4)]))], [(sa 1, .inr (16, [.int md, .ref d, .int (nI n)]))], [(sa 2, .inl (D.1 100, 7, .inl (fun i_ => c (9 + i_))))], [(sa 3, .inl (D.1 100, 7, .inl (fun i_ => c (2 + i_))))], [(sa 4, .inl (D.1 100, 7, .inl od))], [(d, .inl (D.1 104, 10, .inr (.inr (.inr (.inr (rF ra n))))))], [(pq 0, .inr (2, [.int (zc 16), .int (zc 1), .int (zc 0), .int zwn, .ref (pq 1), .ref (pq 2), .ref (pq 3), .ref (pq 4)]))], [(pq 1, .inr (16, [.int zmd, .ref zd, .int (nI zn)]))], [(pq 2, .inl (D.1 100, 7, .inl (fun i_ => zc (9 + i_))))], [(pq 3, .inl (D.1 100, 7, .inl (fun i_ => zc (2 + i_))))], [(pq 4, .inl (D.1 100, 7, .inl zod))], [(zd, .inl (D.1 104, 10, .inr (.inr (.inr (.inr (rF zra zn))))))], pstP D (setS jf i none) 2, T] (List.Perm.refl _) ?_
          refine z_ald (pc := 28) gX (zI_ok gX hAX) (j := i) (n := 2) (f := (pRef jf)) (zm 1 rfl) 6 rfl (by omega) (by decide) (pq 0) (pRef_i hq) dX0_image_28 ?_
          refine z_ifnonnull (pc := 29) gX 45 dX0_image_29 (by decide) ?_
          refine z_aload_n (pc := 45) gX 0 dX0_image_45 rfl rfl ?_
          refine z_get (pc := 46) gX (zI_ok gX hAX) (zm 0 rfl) (ci := 0) (C := RX0) (T := TX0) (N := 14) rfl in_X0 8 (by decide) q217 (fun _ h => h) (v := .ref (ad 3)) rfl dX0_image_46 ?_
          refine z_iload_n (pc := 49) gX 1 dX0_image_49 rfl rfl ?_
          refine z_ald (pc := 50) gX (zI_ok gX hAX) (j := i) (n := 2) (f := (pRef jf)) (zm 1 rfl) 6 rfl (by omega) (by decide) (pq 0) (pRef_i hq) dX0_image_50 ?_
          refine z_aload_n (pc := 51) gX 0 dX0_image_51 rfl rfl ?_
          refine z_get (pc := 52) gX (zI_ok gX hAX) (zm 0 rfl) (ci := 0) (C := RX0) (T := TX0) (N := 14) rfl in_X0 4 (by decide) q213 (fun _ h => h) (v := .ref (sa 0)) rfl dX0_image_52 ?_
          refine z_cMV (pc := 55) gX hAX [.ref (sa 0)] [] [8, 9, 10, 11, 12, 13, 2, 3, 4, 5, 6, 7, 15] [0, 1, 14] (fun A1 => met_X2_becomeG l D B0 A1 sa (c 16) (c 1) (c 0) wn md d n (fun i_ => c (9 + i_)) (fun i_ => c (2 + i_)) od ra (fun r => c (18 + r)) T pq (zc 16) (zc 1) (zc 0) zwn zmd (fun i_ => zc (9 + i_)) (fun i_ => zc (2 + i_)) zod zd zn zra hn7 hR hz7) q784 q785 q786 q49 q787 (zm 8 rfl) (ci := 2) rfl rfl hd_X2_become ⟨rfl, rfl⟩ ⟨(Nat.le_of_ble_eq_true rfl), (Nat.le_of_ble_eq_true rfl)⟩ rfl rfl (zpl 16 rfl (by decide +kernel)) rfl rfl (Nat.le_of_ble_eq_true rfl) ⟨(Nat.le_of_ble_eq_true rfl), (Nat.le_of_ble_eq_true rfl)⟩ dX0_image_55 ?_
          intro u55 hu55
          obtain ⟨md1_55, rfl⟩ : ∃ z, z = u55 := ⟨_, rfl⟩
          refine z_re [13, 14, 6, 7, 8, 9, 10, 11, 0, 1, 2, 3, 4, 5, 15, 12] [cOb o ad (sa 0) (sb 0) tr x, [(ad 3, .inl (D.1 106, 2, .inr (.inr (.inr (.inr (pRef jf))))))], [(sa 0, .inr (2, [.int (c 16), .int (c 1), .int (c 0), .int wn, .ref (sa 1), .ref (sa 2), .ref (sa 3), .ref (sa 4)]))], [(sa 1, .inr (16, [.int md, .ref d, .int (nI n)]))], [(sa 2, .inl (D.1 100, 7, .inl (fun i_ => c (9 + i_))))], [(sa 3, .inl (D.1 100, 7, .inl (fun i_ => c (2 + i_))))], [(sa 4, .inl (D.1 100, 7, .inl od))], [(d, .inl (D.1 104, 10, .inr (.inr (.inr (.inr (rF ra n))))))], [(pq 0, .inr (2, [.int (c 16), .int (c 1), .int (c 0), .int wn, .ref (pq 1), .ref (pq 2), .ref (pq 3), .ref (pq 4)]))], [(pq 1, .inr (16, [.int md1_55, .ref zd, .int (nI n)]))], [(pq 2, .inl (D.1 100, 7, .inl (fun i_ => c (9 + i_))))], [(pq 3, .inl (D.1 100, 7, .inl (fun i_ => c (2 + i_))))], [(pq 4, .inl (D.1 100, 7, .inl zod))], [(zd, .inl (D.1 104, 10, .inr (.inr (.inr (.inr (rF ra n))))))], pstP D (setS jf i none) 2, T] rfl (zpl 16 rfl (by decide +kernel)) ?_
          refine z_eq (lv₂ := [(0, .ref o), (1, .int (nI i))]) (st₂ := [.ref (pq 0)]) ?_ rfl rfl
          refine z_weq [cOb o ad (sa 0) (sb 0) tr x, [(ad 3, .inl (D.1 106, 2, .inr (.inr (.inr (.inr (pRef (setS jf i (some (pq, ((some zd, n, ra), (md1_55, wn, zod), c))))))))))], [(sa 0, .inr (2, [.int (c 16), .int (c 1), .int (c 0), .int wn, .ref (sa 1), .ref (sa 2), .ref (sa 3), .ref (sa 4)]))], [(sa 1, .inr (16, [.int md, .ref d, .int (nI n)]))], [(sa 2, .inl (D.1 100, 7, .inl (fun i_ => c (9 + i_))))], [(sa 3, .inl (D.1 100, 7, .inl (fun i_ => c (2 + i_))))], [(sa 4, .inl (D.1 100, 7, .inl od))], [(d, .inl (D.1 104, 10, .inr (.inr (.inr (.inr (rF ra n))))))], [(pq 0, .inr (2, [.int (c 16), .int (c 1), .int (c 0), .int wn, .ref (pq 1), .ref (pq 2), .ref (pq 3), .ref (pq 4)]))], [(pq 1, .inr (16, [.int md1_55, .ref zd, .int (nI n)]))], [(pq 2, .inl (D.1 100, 7, .inl (fun i_ => c (9 + i_))))], [(pq 3, .inl (D.1 100, 7, .inl (fun i_ => c (2 + i_))))], [(pq 4, .inl (D.1 100, 7, .inl zod))], [(zd, .inl (D.1 104, 10, .inr (.inr (.inr (.inr (rF ra n))))))], pstP D (setS jf i none) 2, T] (by rw [← pRef_same (s := (pq, ((some zd, n, ra), (md1_55, wn, zod), c))) (show pRef jf i = some (pq 0) from pRef_i hq)]) ?_
          refine z_ws [cOb o ad (sa 0) (sb 0) tr x, [(ad 3, .inl (D.1 106, 2, .inr (.inr (.inr (.inr (pRef (setS jf i (some (pq, ((some zd, n, ra), (md1_55, wn, zod), c))))))))))], [(sa 0, .inr (2, [.int (c 16), .int (c 1), .int (c 0), .int wn, .ref (sa 1), .ref (sa 2), .ref (sa 3), .ref (sa 4)]))], [(sa 1, .inr (16, [.int md, .ref d, .int (nI n)]))], [(sa 2, .inl (D.1 100, 7, .inl (fun i_ => c (9 + i_))))], [(sa 3, .inl (D.1 100, 7, .inl (fun i_ => c (2 + i_))))], [(sa 4, .inl (D.1 100, 7, .inl od))], [(d, .inl (D.1 104, 10, .inr (.inr (.inr (.inr (rF ra n))))))], thP D pq ((some zd, n, ra), (md1_55, wn, zod), c), pstP D (setS jf i none) 2, T] (List.Perm.refl _) ?_
          refine z_ws [cOb o ad (sa 0) (sb 0) tr x, [(ad 3, .inl (D.1 106, 2, .inr (.inr (.inr (.inr (pRef (setS jf i (some (pq, ((some zd, n, ra), (md1_55, wn, zod), c))))))))))], [(sa 0, .inr (2, [.int (c 16), .int (c 1), .int (c 0), .int wn, .ref (sa 1), .ref (sa 2), .ref (sa 3), .ref (sa 4)]))], [(sa 1, .inr (16, [.int md, .ref d, .int (nI n)]))], [(sa 2, .inl (D.1 100, 7, .inl (fun i_ => c (9 + i_))))], [(sa 3, .inl (D.1 100, 7, .inl (fun i_ => c (2 + i_))))], [(sa 4, .inl (D.1 100, 7, .inl od))], [(d, .inl (D.1 104, 10, .inr (.inr (.inr (.inr (rF ra n))))))], pstP D (setS jf i (some (pq, ((some zd, n, ra), (md1_55, wn, zod), c)))) 2, T] (gs_perm (pstP D (setS jf i (some (pq, ((some zd, n, ra), (md1_55, wn, zod), c)))) 2) 8 2 rfl (pst_c (by omega))) ?_
          refine z_pop (pc := 58) gX dX0_image_58 rfl ?_
          refine z_iconst (pc := 59) gX 1 dX0_image_59 (by decide) ?_
          refine z_ws [cOb o ad (sa 0) (sb 0) tr x, [(ad 3, .inl (D.1 106, 2, .inr (.inr (.inr (.inr (pRef (setS jf i (some (pq, ((some zd, n, ra), (md1_55, wn, zod), c))))))))))], thP D sa ((some d, n, ra), (md, wn, od), c), pstP D (setS jf i (some (pq, ((some zd, n, ra), (md1_55, wn, zod), c)))) 2, T] (List.Perm.refl _) ?_
          exact z_rim gX hQX (1, cpT im (25 * i) c 25, upd kp i (vp_nar .boolean 1), setS jf i (some (pq, ((some zd, n, ra), (md1_55, wn, zod), c)))) (⟨by simp [mImage, k7, poG hG, nI_clamp (show i < 2 ^ 31 by omega)], hI.set (by omega) hG (hnC (by omega))⟩) rfl rfl (by first | decide | omega) (by first | decide | omega) dX0_image_60
      · skip
        have k17 : (decide (0 < (c 16))) = false := bI_eq0 c17
        exact absurd k17 (by rw [thG hG]; decide)
    · skip
      have k7 : (mIn v 0 1) = false := bI_eq0 c7
      refine z_ldc (pc := 10) gX q350 dX0_image_10 ?_
      refine z_ws [cOb o ad (sa 0) (sb 0) tr x, [(ad 3, .inl (D.1 106, 2, .inr (.inr (.inr (.inr (pRef jf))))))], thP D sa ((some d, n, ra), (md, wn, od), c), pstP D jf 2, T] (List.Perm.refl _) ?_
      exact z_rim gX hQX ((-1000001), im, kp, jf) (⟨by simp [mImage, k7], hI⟩) rfl rfl (by first | decide | omega) (by first | decide | omega) dX0_image_12
theorem hd_X0_image : zHd yX0_image 1 := by unfold zHd; decide +kernel

set_option maxHeartbeats 4000000 in
theorem met_X0_restore (l : Launch) (D : va_G) (B0 : Nat) (A : Nat → Prop) (o : Nat) (ad : Nat → Nat) (sa : Nat → Nat) (sb : Nat → Nat) (tr : Nat) (x : Nat → Int32) (da : Option Nat) (n : Nat) (ra : Nat → Nat) (md : Int32) (wn : Int32) (od : Nat → Int32) (c : Nat → Int32) (T : va_W) (k : Nat) (xm : Nat → Int32) (pa : Nat → Int32) (pf : pF) (kn : Nat) (im : Nat → Int32) (kp : Nat → Int32) (jf : pF) (v : Int32) (hS : sOK T da n k ra c) (hx : x 2 = nI kn) (hA : aOK n k ra c xm kn pf pa) (hI : imR T jf im kp) : Met l yX0_restore (ws_ yX0_restore cX0_restore 2 (some .int)) (zRm 7 1 10) (va_Pc [.ref o, .int v] (zPre B0 D A [cOb o ad (sa 0) (sb 0) tr x, [(ad 3, .inl (D.1 106, 2, .inr (.inr (.inr (.inr (pRef jf))))))], thP D sa ((da, n, ra), (md, wn, od), c), pstP D jf 2, T])) (zQ (S := Int32 × (Nat → Int32) × Nat × Nat × (Option Nat) × Nat × (Nat → Nat) × Int32 × Int32 × (Nat → Int32)) (fun u => (fun (r_ : Int32) (xm1 : Nat → Int32) (kn1 : Nat) (k1 : Nat) (da1 : Option Nat) (n1 : Nat) (ra1 : Nat → Nat) (md1 : Int32) (wn1 : Int32) (c1 : Nat → Int32) => (r_, xm1) = ((mRestore xm c im kp v).1, (mRestore xm c im kp v).2.1) ∧ (∀ j, j < 25 → c1 j = (mRestore xm c im kp v).2.2 j) ∧ sOK T da1 n1 k1 ra1 c1 ∧ aOK n1 k1 ra1 c1 xm1 kn1 pf pa) u.1 u.2.1 u.2.2.1 u.2.2.2.1 u.2.2.2.2.1 u.2.2.2.2.2.1 u.2.2.2.2.2.2.1 u.2.2.2.2.2.2.2.1 u.2.2.2.2.2.2.2.2.1 u.2.2.2.2.2.2.2.2.2) (fun u => (fun (r_ : Int32) (xm1 : Nat → Int32) (kn1 : Nat) (k1 : Nat) (da1 : Option Nat) (n1 : Nat) (ra1 : Nat → Nat) (md1 : Int32) (wn1 : Int32) (c1 : Nat → Int32) => some (.int r_)) u.1 u.2.1 u.2.2.1 u.2.2.2.1 u.2.2.2.2.1 u.2.2.2.2.2.1 u.2.2.2.2.2.2.1 u.2.2.2.2.2.2.2.1 u.2.2.2.2.2.2.2.2.1 u.2.2.2.2.2.2.2.2.2) (fun u => (fun (r_ : Int32) (xm1 : Nat → Int32) (kn1 : Nat) (k1 : Nat) (da1 : Option Nat) (n1 : Nat) (ra1 : Nat → Nat) (md1 : Int32) (wn1 : Int32) (c1 : Nat → Int32) => [cOb o ad (sa 0) (sb 0) tr (upd x 2 (nI kn1)), [(ad 3, .inl (D.1 106, 2, .inr (.inr (.inr (.inr (pRef jf))))))], thP D sa ((da1, n1, ra1), (md1, wn1, od), c1), pstP D jf 2, T]) u.1 u.2.1 u.2.2.1 u.2.2.2.1 u.2.2.2.2.1 u.2.2.2.2.2.1 u.2.2.2.2.2.2.1 u.2.2.2.2.2.2.2.1 u.2.2.2.2.2.2.2.2.1 u.2.2.2.2.2.2.2.2.2) D A) 1 10 A := by
  refine z_entry (by decide +kernel) (Nat.le_of_ble_eq_true rfl) (fun pX eX sX mX argsX blX mtX cX QX hQX gX hAX hnm => ?_)
  refine z_eq (lv₂ := [(0, .ref o), (1, .int v)]) (st₂ := []) ?_ rfl rfl
  have hS0 := hS
  rcases hS with ⟨rfl, rfl, h16, h17⟩ | ⟨⟨d, rfl⟩, hG⟩
  · skip
    refine z_ws [cOb o ad (sa 0) (sb 0) tr x, [(ad 3, .inl (D.1 106, 2, .inr (.inr (.inr (.inr (pRef jf))))))], [(sa 0, .inr (2, [.int (c 16), .int (c 1), .int (c 0), .int wn, .ref (sa 1), .ref (sa 2), .ref (sa 3), .ref (sa 4)]))], [(sa 1, .inr (16, [.int md, .ref (zEE D), .int (nI 0)]))], [(sa 2, .inl (D.1 100, 7, .inl (fun i_ => c (9 + i_))))], [(sa 3, .inl (D.1 100, 7, .inl (fun i_ => c (2 + i_))))], [(sa 4, .inl (D.1 100, 7, .inl od))], pstP D jf 2, T] (List.Perm.refl _) ?_
    refine z_iload_n (pc := 0) gX 1 dX0_restore_0 rfl rfl ?_
    refine z_i2l (pc := 1) gX dX0_restore_1 ?_
    refine z_lconst (pc := 2) gX 0 dX0_restore_2 rfl ?_
    refine z_lconst (pc := 3) gX 1 dX0_restore_3 rfl ?_
    refine z_cOS (pc := 4) gX (zI_ok gX hAX) [.long v.toInt64, .long 0, .long 1] [] [] (met_X0_isIn l D B0 v.toInt64 0 1 ) q346 q347 q47 q348 hd_X0_isIn ⟨rfl, rfl⟩ ⟨(Nat.le_of_ble_eq_true rfl), (Nat.le_of_ble_eq_true rfl)⟩ rfl rfl rfl (Nat.le_of_ble_eq_true rfl) ⟨(Nat.le_of_ble_eq_true rfl), (Nat.le_of_ble_eq_true rfl)⟩ dX0_restore_4 ?_
    intro _ hu4
    refine z_eq (lv₂ := [(0, .ref o), (1, .int v)]) (st₂ := [.int (bI (lIn v.toInt64 0 1))]) ?_ rfl rfl
    refine z_top (bI (mIn v 0 1)) (congrArg bI (lIn_eq rfl (by decide) (by decide))) ?_
    refine z_if_ne (pc := 7) gX 13 dX0_restore_7 (by decide) (fun c7 => ?_) (fun c7 => ?_)
    · skip
      have k7 : (mIn v 0 1) = true := bI_ne0 c7
      obtain ⟨i, hi, rfl⟩ := mIn_nat k7 1 (by decide)
      refine z_aload_n (pc := 13) gX 0 dX0_restore_13 rfl rfl ?_
      refine z_get (pc := 14) gX (zI_ok gX hAX) (zm 0 rfl) (ci := 0) (C := RX0) (T := TX0) (N := 14) rfl in_X0 8 (by decide) q217 (fun _ h => h) (v := .ref (ad 3)) rfl dX0_restore_14 ?_
      refine z_iload_n (pc := 17) gX 1 dX0_restore_17 rfl rfl ?_
      rcases hI.2 i (by omega) with ⟨hk0, hq⟩ | ⟨hk0, pq, zd, zn, zra, ⟨zmd, zwn, zod⟩, zc, zk, hq, hG2, hn2, hz⟩
      · skip
        refine z_aldN (pc := 18) gX (zI_ok gX hAX) (j := i) (n := 2) (f := (pRef jf)) (zm 1 rfl) 6 rfl (by omega) (by decide) (pRef_n hq) dX0_restore_18 ?_
        refine z_ifnonnullN (pc := 19) gX dX0_restore_19 ?_
        refine z_ldc (pc := 22) gX q833 dX0_restore_22 ?_
        refine z_ws [cOb o ad (sa 0) (sb 0) tr x, [(ad 3, .inl (D.1 106, 2, .inr (.inr (.inr (.inr (pRef jf))))))], thP D sa ((none, 0, ra), (md, wn, od), c), pstP D jf 2, T] (List.Perm.refl _) ?_
        exact z_rim gX hQX ((-1000002), xm, kn, k, none, 0, ra, md, wn, c) (⟨by simp [mRestore, k7, hk0, nI_clamp (show i < 2 ^ 31 by omega)], fun j hj => by simp [mRestore, k7, hk0, nI_clamp (show i < 2 ^ 31 by omega)], hS0, hA⟩) rfl (by simp only [show upd x 2 (nI kn) = x by rw [← hx]; exact upd_self _ _]) (by first | decide | omega) (by first | decide | omega) dX0_restore_24
      · skip
        refine z_ws [cOb o ad (sa 0) (sb 0) tr x, [(ad 3, .inl (D.1 106, 2, .inr (.inr (.inr (.inr (pRef jf))))))], [(sa 0, .inr (2, [.int (c 16), .int (c 1), .int (c 0), .int wn, .ref (sa 1), .ref (sa 2), .ref (sa 3), .ref (sa 4)]))], [(sa 1, .inr (16, [.int md, .ref (zEE D), .int (nI 0)]))], [(sa 2, .inl (D.1 100, 7, .inl (fun i_ => c (9 + i_))))], [(sa 3, .inl (D.1 100, 7, .inl (fun i_ => c (2 + i_))))], [(sa 4, .inl (D.1 100, 7, .inl od))], thP D pq ((some zd, zn, zra), (zmd, zwn, zod), zc), pstP D (setS jf i none) 2, T] (sg_perm [thP D pq ((some zd, zn, zra), (zmd, zwn, zod), zc), pstP D (setS jf i none) 2] 7 rfl rfl (pst_o2 (by omega) hq)) ?_
        refine z_ws [cOb o ad (sa 0) (sb 0) tr x, [(ad 3, .inl (D.1 106, 2, .inr (.inr (.inr (.inr (pRef jf))))))], [(sa 0, .inr (2, [.int (c 16), .int (c 1), .int (c 0), .int wn, .ref (sa 1), .ref (sa 2), .ref (sa 3), .ref (sa 4)]))], [(sa 1, .inr (16, [.int md, .ref (zEE D), .int (nI 0)]))], [(sa 2, .inl (D.1 100, 7, .inl (fun i_ => c (9 + i_))))], [(sa 3, .inl (D.1 100, 7, .inl (fun i_ => c (2 + i_))))], [(sa 4, .inl (D.1 100, 7, .inl od))], [(pq 0, .inr (2, [.int (zc 16), .int (zc 1), .int (zc 0), .int zwn, .ref (pq 1), .ref (pq 2), .ref (pq 3), .ref (pq 4)]))], [(pq 1, .inr (16, [.int zmd, .ref zd, .int (nI zn)]))], [(pq 2, .inl (D.1 100, 7, .inl (fun i_ => zc (9 + i_))))], [(pq 3, .inl (D.1 100, 7, .inl (fun i_ => zc (2 + i_))))], [(pq 4, .inl (D.1 100, 7, .inl zod))], [(zd, .inl (D.1 104, 10, .inr (.inr (.inr (.inr (rF zra zn))))))], pstP D (setS jf i none) 2, T] (List.Perm.refl _) ?_
        refine z_ald (pc := 18) gX (zI_ok gX hAX) (j := i) (n := 2) (f := (pRef jf)) (zm 1 rfl) 6 rfl (by omega) (by decide) (pq 0) (pRef_i hq) dX0_restore_18 ?_
        refine z_ifnonnull (pc := 19) gX 25 dX0_restore_19 (by decide) ?_
        refine z_aload_n (pc := 25) gX 0 dX0_restore_25 rfl rfl ?_
        refine z_get (pc := 26) gX (zI_ok gX hAX) (zm 0 rfl) (ci := 0) (C := RX0) (T := TX0) (N := 14) rfl in_X0 4 (by decide) q213 (fun _ h => h) (v := .ref (sa 0)) rfl dX0_restore_26 ?_
        refine z_aload_n (pc := 29) gX 0 dX0_restore_29 rfl rfl ?_
        refine z_get (pc := 30) gX (zI_ok gX hAX) (zm 0 rfl) (ci := 0) (C := RX0) (T := TX0) (N := 14) rfl in_X0 8 (by decide) q217 (fun _ h => h) (v := .ref (ad 3)) rfl dX0_restore_30 ?_
        refine z_iload_n (pc := 33) gX 1 dX0_restore_33 rfl rfl ?_
        refine z_ald (pc := 34) gX (zI_ok gX hAX) (j := i) (n := 2) (f := (pRef jf)) (zm 1 rfl) 6 rfl (by omega) (by decide) (pq 0) (pRef_i hq) dX0_restore_34 ?_
        refine z_cMV (pc := 35) gX hAX [.ref (pq 0)] [] [2, 3, 4, 5, 6, 7, 8, 9, 10, 11, 12, 14] [0, 1, 13] (fun A1 => met_X2_becomeF l D B0 A1 pq (zc 16) (zc 1) (zc 0) zwn zmd zd zn (fun i_ => zc (9 + i_)) (fun i_ => zc (2 + i_)) zod zra (fun r => zc (18 + r)) T sa (c 16) (c 1) (c 0) wn md (fun i_ => c (9 + i_)) (fun i_ => c (2 + i_)) od hG2.2.1 hG2.2.2.2.2.2.2.2 hG2.1) q784 q785 q786 q49 q787 (zm 2 rfl) (ci := 2) rfl rfl hd_X2_become ⟨rfl, rfl⟩ ⟨(Nat.le_of_ble_eq_true rfl), (Nat.le_of_ble_eq_true rfl)⟩ rfl rfl (zpl 15 rfl (by decide +kernel)) rfl rfl (Nat.le_of_ble_eq_true rfl) ⟨(Nat.le_of_ble_eq_true rfl), (Nat.le_of_ble_eq_true rfl)⟩ dX0_restore_35 ?_
        intro u35 hu35
        obtain ⟨md1_35, zd_35⟩ := u35
        refine z_re [13, 14, 0, 1, 2, 3, 4, 5, 6, 7, 8, 9, 10, 11, 12, 15] [cOb o ad (sa 0) (sb 0) tr x, [(ad 3, .inl (D.1 106, 2, .inr (.inr (.inr (.inr (pRef jf))))))], [(sa 0, .inr (2, [.int (zc 16), .int (zc 1), .int (zc 0), .int zwn, .ref (sa 1), .ref (sa 2), .ref (sa 3), .ref (sa 4)]))], [(sa 1, .inr (16, [.int md1_35, .ref zd_35, .int (nI zn)]))], [(sa 2, .inl (D.1 100, 7, .inl (fun i_ => zc (9 + i_))))], [(sa 3, .inl (D.1 100, 7, .inl (fun i_ => zc (2 + i_))))], [(sa 4, .inl (D.1 100, 7, .inl od))], [(pq 0, .inr (2, [.int (zc 16), .int (zc 1), .int (zc 0), .int zwn, .ref (pq 1), .ref (pq 2), .ref (pq 3), .ref (pq 4)]))], [(pq 1, .inr (16, [.int zmd, .ref zd, .int (nI zn)]))], [(pq 2, .inl (D.1 100, 7, .inl (fun i_ => zc (9 + i_))))], [(pq 3, .inl (D.1 100, 7, .inl (fun i_ => zc (2 + i_))))], [(pq 4, .inl (D.1 100, 7, .inl zod))], [(zd, .inl (D.1 104, 10, .inr (.inr (.inr (.inr (rF zra zn))))))], [(zd_35, .inl (D.1 104, 10, .inr (.inr (.inr (.inr (rF zra zn))))))], T, pstP D (setS jf i none) 2] rfl (zpl 16 rfl (by decide +kernel)) ?_
        refine z_norm [cOb o ad (sa 0) (sb 0) tr x, [(ad 3, .inl (D.1 106, 2, .inr (.inr (.inr (.inr (pRef jf))))))], [(sa 0, .inr (2, [.int (zc 16), .int (zc 1), .int (zc 0), .int zwn, .ref (sa 1), .ref (sa 2), .ref (sa 3), .ref (sa 4)]))], [(sa 1, .inr (16, [.int md1_35, .ref zd_35, .int (nI zn)]))], [(sa 2, .inl (D.1 100, 7, .inl (fun i_ => zc (9 + i_))))], [(sa 3, .inl (D.1 100, 7, .inl (fun i_ => zc (2 + i_))))], [(sa 4, .inl (D.1 100, 7, .inl od))], [(pq 0, .inr (2, [.int (zc 16), .int (zc 1), .int (zc 0), .int zwn, .ref (pq 1), .ref (pq 2), .ref (pq 3), .ref (pq 4)]))], [(pq 1, .inr (16, [.int zmd, .ref zd, .int (nI zn)]))], [(pq 2, .inl (D.1 100, 7, .inl (fun i_ => zc (9 + i_))))], [(pq 3, .inl (D.1 100, 7, .inl (fun i_ => zc (2 + i_))))], [(pq 4, .inl (D.1 100, 7, .inl zod))], [(zd, .inl (D.1 104, 10, .inr (.inr (.inr (.inr (rF zra zn))))))], [(zd_35, .inl (D.1 104, 10, .inr (.inr (.inr (.inr (rF zra zn))))))], T, pstP D (setS jf i none) 2] 1 10 ?_ rfl rfl rfl
        refine z_eq (lv₂ := [(0, .ref o), (1, .int (nI i))]) (st₂ := [.ref (sa 0)]) ?_ rfl rfl
        refine z_re [0, 1, 2, 3, 4, 5, 6, 13, 7, 8, 9, 10, 11, 12, 14, 15] [cOb o ad (sa 0) (sb 0) tr x, [(ad 3, .inl (D.1 106, 2, .inr (.inr (.inr (.inr (pRef jf))))))], [(sa 0, .inr (2, [.int (zc 16), .int (zc 1), .int (zc 0), .int zwn, .ref (sa 1), .ref (sa 2), .ref (sa 3), .ref (sa 4)]))], [(sa 1, .inr (16, [.int md1_35, .ref zd_35, .int (nI zn)]))], [(sa 2, .inl (D.1 100, 7, .inl (fun i_ => zc (9 + i_))))], [(sa 3, .inl (D.1 100, 7, .inl (fun i_ => zc (2 + i_))))], [(sa 4, .inl (D.1 100, 7, .inl od))], [(zd_35, .inl (D.1 104, 10, .inr (.inr (.inr (.inr (rF zra zn))))))], [(pq 0, .inr (2, [.int (zc 16), .int (zc 1), .int (zc 0), .int zwn, .ref (pq 1), .ref (pq 2), .ref (pq 3), .ref (pq 4)]))], [(pq 1, .inr (16, [.int zmd, .ref zd, .int (nI zn)]))], [(pq 2, .inl (D.1 100, 7, .inl (fun i_ => zc (9 + i_))))], [(pq 3, .inl (D.1 100, 7, .inl (fun i_ => zc (2 + i_))))], [(pq 4, .inl (D.1 100, 7, .inl zod))], [(zd, .inl (D.1 104, 10, .inr (.inr (.inr (.inr (rF zra zn))))))], T, pstP D (setS jf i none) 2] rfl (zpl 16 rfl (by decide +kernel)) ?_
        refine z_ws [cOb o ad (sa 0) (sb 0) tr x, [(ad 3, .inl (D.1 106, 2, .inr (.inr (.inr (.inr (pRef jf))))))], [(sa 0, .inr (2, [.int (zc 16), .int (zc 1), .int (zc 0), .int zwn, .ref (sa 1), .ref (sa 2), .ref (sa 3), .ref (sa 4)]))], [(sa 1, .inr (16, [.int md1_35, .ref zd_35, .int (nI zn)]))], [(sa 2, .inl (D.1 100, 7, .inl (fun i_ => zc (9 + i_))))], [(sa 3, .inl (D.1 100, 7, .inl (fun i_ => zc (2 + i_))))], [(sa 4, .inl (D.1 100, 7, .inl od))], [(zd_35, .inl (D.1 104, 10, .inr (.inr (.inr (.inr (rF zra zn))))))], thP D pq ((some zd, zn, zra), (zmd, zwn, zod), zc), T, pstP D (setS jf i none) 2] (List.Perm.refl _) ?_
        refine z_re [0, 1, 2, 3, 4, 5, 6, 7, 8, 10, 9] [cOb o ad (sa 0) (sb 0) tr x, [(ad 3, .inl (D.1 106, 2, .inr (.inr (.inr (.inr (pRef jf))))))], [(sa 0, .inr (2, [.int (zc 16), .int (zc 1), .int (zc 0), .int zwn, .ref (sa 1), .ref (sa 2), .ref (sa 3), .ref (sa 4)]))], [(sa 1, .inr (16, [.int md1_35, .ref zd_35, .int (nI zn)]))], [(sa 2, .inl (D.1 100, 7, .inl (fun i_ => zc (9 + i_))))], [(sa 3, .inl (D.1 100, 7, .inl (fun i_ => zc (2 + i_))))], [(sa 4, .inl (D.1 100, 7, .inl od))], [(zd_35, .inl (D.1 104, 10, .inr (.inr (.inr (.inr (rF zra zn))))))], thP D pq ((some zd, zn, zra), (zmd, zwn, zod), zc), pstP D (setS jf i none) 2, T] rfl (zpl 11 rfl (by decide +kernel)) ?_
        refine z_ws [cOb o ad (sa 0) (sb 0) tr x, [(ad 3, .inl (D.1 106, 2, .inr (.inr (.inr (.inr (pRef jf))))))], [(sa 0, .inr (2, [.int (zc 16), .int (zc 1), .int (zc 0), .int zwn, .ref (sa 1), .ref (sa 2), .ref (sa 3), .ref (sa 4)]))], [(sa 1, .inr (16, [.int md1_35, .ref zd_35, .int (nI zn)]))], [(sa 2, .inl (D.1 100, 7, .inl (fun i_ => zc (9 + i_))))], [(sa 3, .inl (D.1 100, 7, .inl (fun i_ => zc (2 + i_))))], [(sa 4, .inl (D.1 100, 7, .inl od))], [(zd_35, .inl (D.1 104, 10, .inr (.inr (.inr (.inr (rF zra zn))))))], pstP D jf 2, T] (gs_perm (pstP D jf 2) 8 2 rfl (pst_cs (by omega) hq)) ?_
        refine z_pop (pc := 38) gX dX0_restore_38 rfl ?_
        refine z_aload_n (pc := 39) gX 0 dX0_restore_39 rfl rfl ?_
        refine z_iconst (pc := 40) gX 0 dX0_restore_40 (by decide) ?_
        refine z_put (pc := 41) gX hAX 0 rfl (ci := 0) (C := RX0) (T := TX0) (N := 14) rfl in_X0 tyX0 tyX0_ok nmX0 7 (by decide) q216 (fun _ h => h) rfl (v := .int 0) rfl rfl (Nat.le_of_ble_eq_true rfl) [cOb o ad (sa 0) (sb 0) tr (upd x 2 0), [(ad 3, .inl (D.1 106, 2, .inr (.inr (.inr (.inr (pRef jf))))))], [(sa 0, .inr (2, [.int (zc 16), .int (zc 1), .int (zc 0), .int zwn, .ref (sa 1), .ref (sa 2), .ref (sa 3), .ref (sa 4)]))], [(sa 1, .inr (16, [.int md1_35, .ref zd_35, .int (nI zn)]))], [(sa 2, .inl (D.1 100, 7, .inl (fun i_ => zc (9 + i_))))], [(sa 3, .inl (D.1 100, 7, .inl (fun i_ => zc (2 + i_))))], [(sa 4, .inl (D.1 100, 7, .inl od))], [(zd_35, .inl (D.1 104, 10, .inr (.inr (.inr (.inr (rF zra zn))))))], pstP D jf 2, T] rfl dX0_restore_41 ?_
        refine z_iconst (pc := 44) gX 1 dX0_restore_44 (by decide) ?_
        refine z_ws [cOb o ad (sa 0) (sb 0) tr (upd x 2 0), [(ad 3, .inl (D.1 106, 2, .inr (.inr (.inr (.inr (pRef jf))))))], thP D sa ((some zd_35, zn, zra), (md1_35, zwn, od), zc), pstP D jf 2, T] (List.Perm.refl _) ?_
        exact z_rim gX hQX (1, upd xm 3 0, 0, zk, some zd_35, zn, zra, md1_35, zwn, zc) (⟨by simp only [mRestore, k7, if_neg hk0, nI_clamp (show i < 2 ^ 31 by omega), if_true], fun j hj => by simp only [mRestore, k7, if_neg hk0, nI_clamp (show i < 2 ^ 31 by omega), if_true]; exact hz j hj, rest_ok hA.2.2.2.2.1 hG2 hn2⟩) rfl rfl (by first | decide | omega) (by first | decide | omega) dX0_restore_45
    · skip
      have k7 : (mIn v 0 1) = false := bI_eq0 c7
      refine z_ldc (pc := 10) gX q350 dX0_restore_10 ?_
      refine z_ws [cOb o ad (sa 0) (sb 0) tr x, [(ad 3, .inl (D.1 106, 2, .inr (.inr (.inr (.inr (pRef jf))))))], thP D sa ((none, 0, ra), (md, wn, od), c), pstP D jf 2, T] (List.Perm.refl _) ?_
      exact z_rim gX hQX ((-1000001), xm, kn, k, none, 0, ra, md, wn, c) (⟨by simp [mRestore, k7], fun j hj => by simp [mRestore, k7], hS0, hA⟩) rfl (by simp only [show upd x 2 (nI kn) = x by rw [← hx]; exact upd_self _ _]) (by first | decide | omega) (by first | decide | omega) dX0_restore_12
  · skip
    have hK := hG.k
    have hn1 := hG.1
    have hn7 := hG.2.1
    have h17 := hG.2.2.1
    have h16 := hG.2.2.2.1
    have hk4 := hG.2.2.2.2.1
    have hk12 := hG.2.2.2.2.2.1
    have hln := hG.2.2.2.2.2.2.1
    have hR := hG.2.2.2.2.2.2.2
    refine z_ws [cOb o ad (sa 0) (sb 0) tr x, [(ad 3, .inl (D.1 106, 2, .inr (.inr (.inr (.inr (pRef jf))))))], [(sa 0, .inr (2, [.int (c 16), .int (c 1), .int (c 0), .int wn, .ref (sa 1), .ref (sa 2), .ref (sa 3), .ref (sa 4)]))], [(sa 1, .inr (16, [.int md, .ref d, .int (nI n)]))], [(sa 2, .inl (D.1 100, 7, .inl (fun i_ => c (9 + i_))))], [(sa 3, .inl (D.1 100, 7, .inl (fun i_ => c (2 + i_))))], [(sa 4, .inl (D.1 100, 7, .inl od))], [(d, .inl (D.1 104, 10, .inr (.inr (.inr (.inr (rF ra n))))))], pstP D jf 2, T] (List.Perm.refl _) ?_
    refine z_iload_n (pc := 0) gX 1 dX0_restore_0 rfl rfl ?_
    refine z_i2l (pc := 1) gX dX0_restore_1 ?_
    refine z_lconst (pc := 2) gX 0 dX0_restore_2 rfl ?_
    refine z_lconst (pc := 3) gX 1 dX0_restore_3 rfl ?_
    refine z_cOS (pc := 4) gX (zI_ok gX hAX) [.long v.toInt64, .long 0, .long 1] [] [] (met_X0_isIn l D B0 v.toInt64 0 1 ) q346 q347 q47 q348 hd_X0_isIn ⟨rfl, rfl⟩ ⟨(Nat.le_of_ble_eq_true rfl), (Nat.le_of_ble_eq_true rfl)⟩ rfl rfl rfl (Nat.le_of_ble_eq_true rfl) ⟨(Nat.le_of_ble_eq_true rfl), (Nat.le_of_ble_eq_true rfl)⟩ dX0_restore_4 ?_
    intro _ hu4
    refine z_eq (lv₂ := [(0, .ref o), (1, .int v)]) (st₂ := [.int (bI (lIn v.toInt64 0 1))]) ?_ rfl rfl
    refine z_top (bI (mIn v 0 1)) (congrArg bI (lIn_eq rfl (by decide) (by decide))) ?_
    refine z_if_ne (pc := 7) gX 13 dX0_restore_7 (by decide) (fun c7 => ?_) (fun c7 => ?_)
    · skip
      have k7 : (mIn v 0 1) = true := bI_ne0 c7
      obtain ⟨i, hi, rfl⟩ := mIn_nat k7 1 (by decide)
      refine z_aload_n (pc := 13) gX 0 dX0_restore_13 rfl rfl ?_
      refine z_get (pc := 14) gX (zI_ok gX hAX) (zm 0 rfl) (ci := 0) (C := RX0) (T := TX0) (N := 14) rfl in_X0 8 (by decide) q217 (fun _ h => h) (v := .ref (ad 3)) rfl dX0_restore_14 ?_
      refine z_iload_n (pc := 17) gX 1 dX0_restore_17 rfl rfl ?_
      rcases hI.2 i (by omega) with ⟨hk0, hq⟩ | ⟨hk0, pq, zd, zn, zra, ⟨zmd, zwn, zod⟩, zc, zk, hq, hG2, hn2, hz⟩
      · skip
        refine z_aldN (pc := 18) gX (zI_ok gX hAX) (j := i) (n := 2) (f := (pRef jf)) (zm 1 rfl) 6 rfl (by omega) (by decide) (pRef_n hq) dX0_restore_18 ?_
        refine z_ifnonnullN (pc := 19) gX dX0_restore_19 ?_
        refine z_ldc (pc := 22) gX q833 dX0_restore_22 ?_
        refine z_ws [cOb o ad (sa 0) (sb 0) tr x, [(ad 3, .inl (D.1 106, 2, .inr (.inr (.inr (.inr (pRef jf))))))], thP D sa ((some d, n, ra), (md, wn, od), c), pstP D jf 2, T] (List.Perm.refl _) ?_
        exact z_rim gX hQX ((-1000002), xm, kn, k, some d, n, ra, md, wn, c) (⟨by simp [mRestore, k7, hk0, nI_clamp (show i < 2 ^ 31 by omega)], fun j hj => by simp [mRestore, k7, hk0, nI_clamp (show i < 2 ^ 31 by omega)], hS0, hA⟩) rfl (by simp only [show upd x 2 (nI kn) = x by rw [← hx]; exact upd_self _ _]) (by first | decide | omega) (by first | decide | omega) dX0_restore_24
      · skip
        refine z_ws [cOb o ad (sa 0) (sb 0) tr x, [(ad 3, .inl (D.1 106, 2, .inr (.inr (.inr (.inr (pRef jf))))))], [(sa 0, .inr (2, [.int (c 16), .int (c 1), .int (c 0), .int wn, .ref (sa 1), .ref (sa 2), .ref (sa 3), .ref (sa 4)]))], [(sa 1, .inr (16, [.int md, .ref d, .int (nI n)]))], [(sa 2, .inl (D.1 100, 7, .inl (fun i_ => c (9 + i_))))], [(sa 3, .inl (D.1 100, 7, .inl (fun i_ => c (2 + i_))))], [(sa 4, .inl (D.1 100, 7, .inl od))], [(d, .inl (D.1 104, 10, .inr (.inr (.inr (.inr (rF ra n))))))], thP D pq ((some zd, zn, zra), (zmd, zwn, zod), zc), pstP D (setS jf i none) 2, T] (sg_perm [thP D pq ((some zd, zn, zra), (zmd, zwn, zod), zc), pstP D (setS jf i none) 2] 8 rfl rfl (pst_o2 (by omega) hq)) ?_
        refine z_ws [cOb o ad (sa 0) (sb 0) tr x, [(ad 3, .inl (D.1 106, 2, .inr (.inr (.inr (.inr (pRef jf))))))], [(sa 0, .inr (2, [.int (c 16), .int (c 1), .int (c 0), .int wn, .ref (sa 1), .ref (sa 2), .ref (sa 3), .ref (sa 4)]))], [(sa 1, .inr (16, [.int md, .ref d, .int (nI n)]))], [(sa 2, .inl (D.1 100, 7, .inl (fun i_ => c (9 + i_))))], [(sa 3, .inl (D.1 100, 7, .inl (fun i_ => c (2 + i_))))], [(sa 4, .inl (D.1 100, 7, .inl od))], [(d, .inl (D.1 104, 10, .inr (.inr (.inr (.inr (rF ra n))))))], [(pq 0, .inr (2, [.int (zc 16), .int (zc 1), .int (zc 0), .int zwn, .ref (pq 1), .ref (pq 2), .ref (pq 3), .ref (pq 4)]))], [(pq 1, .inr (16, [.int zmd, .ref zd, .int (nI zn)]))], [(pq 2, .inl (D.1 100, 7, .inl (fun i_ => zc (9 + i_))))], [(pq 3, .inl (D.1 100, 7, .inl (fun i_ => zc (2 + i_))))], [(pq 4, .inl (D.1 100, 7, .inl zod))], [(zd, .inl (D.1 104, 10, .inr (.inr (.inr (.inr (rF zra zn))))))], pstP D (setS jf i none) 2, T] (List.Perm.refl _) ?_
        refine z_ald (pc := 18) gX (zI_ok gX hAX) (j := i) (n := 2) (f := (pRef jf)) (zm 1 rfl) 6 rfl (by omega) (by decide) (pq 0) (pRef_i hq) dX0_restore_18 ?_
        refine z_ifnonnull (pc := 19) gX 25 dX0_restore_19 (by decide) ?_
        refine z_aload_n (pc := 25) gX 0 dX0_restore_25 rfl rfl ?_
        refine z_get (pc := 26) gX (zI_ok gX hAX) (zm 0 rfl) (ci := 0) (C := RX0) (T := TX0) (N := 14) rfl in_X0 4 (by decide) q213 (fun _ h => h) (v := .ref (sa 0)) rfl dX0_restore_26 ?_
        refine z_aload_n (pc := 29) gX 0 dX0_restore_29 rfl rfl ?_
        refine z_get (pc := 30) gX (zI_ok gX hAX) (zm 0 rfl) (ci := 0) (C := RX0) (T := TX0) (N := 14) rfl in_X0 8 (by decide) q217 (fun _ h => h) (v := .ref (ad 3)) rfl dX0_restore_30 ?_
        refine z_iload_n (pc := 33) gX 1 dX0_restore_33 rfl rfl ?_
        refine z_ald (pc := 34) gX (zI_ok gX hAX) (j := i) (n := 2) (f := (pRef jf)) (zm 1 rfl) 6 rfl (by omega) (by decide) (pq 0) (pRef_i hq) dX0_restore_34 ?_
        refine z_cMV (pc := 35) gX hAX [.ref (pq 0)] [] [2, 3, 4, 5, 6, 7, 8, 9, 10, 11, 12, 13, 15] [0, 1, 14] (fun A1 => met_X2_becomeG l D B0 A1 pq (zc 16) (zc 1) (zc 0) zwn zmd zd zn (fun i_ => zc (9 + i_)) (fun i_ => zc (2 + i_)) zod zra (fun r => zc (18 + r)) T sa (c 16) (c 1) (c 0) wn md (fun i_ => c (9 + i_)) (fun i_ => c (2 + i_)) od d n ra hG2.2.1 hG2.2.2.2.2.2.2.2 hn7) q784 q785 q786 q49 q787 (zm 2 rfl) (ci := 2) rfl rfl hd_X2_become ⟨rfl, rfl⟩ ⟨(Nat.le_of_ble_eq_true rfl), (Nat.le_of_ble_eq_true rfl)⟩ rfl rfl (zpl 16 rfl (by decide +kernel)) rfl rfl (Nat.le_of_ble_eq_true rfl) ⟨(Nat.le_of_ble_eq_true rfl), (Nat.le_of_ble_eq_true rfl)⟩ dX0_restore_35 ?_
        intro u35 hu35
        obtain ⟨md1_35, rfl⟩ : ∃ z, z = u35 := ⟨_, rfl⟩
        refine z_re [13, 14, 0, 1, 2, 3, 4, 5, 6, 7, 8, 9, 10, 11, 15, 12] [cOb o ad (sa 0) (sb 0) tr x, [(ad 3, .inl (D.1 106, 2, .inr (.inr (.inr (.inr (pRef jf))))))], [(sa 0, .inr (2, [.int (zc 16), .int (zc 1), .int (zc 0), .int zwn, .ref (sa 1), .ref (sa 2), .ref (sa 3), .ref (sa 4)]))], [(sa 1, .inr (16, [.int md1_35, .ref d, .int (nI zn)]))], [(sa 2, .inl (D.1 100, 7, .inl (fun i_ => zc (9 + i_))))], [(sa 3, .inl (D.1 100, 7, .inl (fun i_ => zc (2 + i_))))], [(sa 4, .inl (D.1 100, 7, .inl od))], [(d, .inl (D.1 104, 10, .inr (.inr (.inr (.inr (rF zra zn))))))], [(pq 0, .inr (2, [.int (zc 16), .int (zc 1), .int (zc 0), .int zwn, .ref (pq 1), .ref (pq 2), .ref (pq 3), .ref (pq 4)]))], [(pq 1, .inr (16, [.int zmd, .ref zd, .int (nI zn)]))], [(pq 2, .inl (D.1 100, 7, .inl (fun i_ => zc (9 + i_))))], [(pq 3, .inl (D.1 100, 7, .inl (fun i_ => zc (2 + i_))))], [(pq 4, .inl (D.1 100, 7, .inl zod))], [(zd, .inl (D.1 104, 10, .inr (.inr (.inr (.inr (rF zra zn))))))], pstP D (setS jf i none) 2, T] rfl (zpl 16 rfl (by decide +kernel)) ?_
        refine z_eq (lv₂ := [(0, .ref o), (1, .int (nI i))]) (st₂ := [.ref (sa 0)]) ?_ rfl rfl
        refine z_ws [cOb o ad (sa 0) (sb 0) tr x, [(ad 3, .inl (D.1 106, 2, .inr (.inr (.inr (.inr (pRef jf))))))], [(sa 0, .inr (2, [.int (zc 16), .int (zc 1), .int (zc 0), .int zwn, .ref (sa 1), .ref (sa 2), .ref (sa 3), .ref (sa 4)]))], [(sa 1, .inr (16, [.int md1_35, .ref d, .int (nI zn)]))], [(sa 2, .inl (D.1 100, 7, .inl (fun i_ => zc (9 + i_))))], [(sa 3, .inl (D.1 100, 7, .inl (fun i_ => zc (2 + i_))))], [(sa 4, .inl (D.1 100, 7, .inl od))], [(d, .inl (D.1 104, 10, .inr (.inr (.inr (.inr (rF zra zn))))))], thP D pq ((some zd, zn, zra), (zmd, zwn, zod), zc), pstP D (setS jf i none) 2, T] (List.Perm.refl _) ?_
        refine z_ws [cOb o ad (sa 0) (sb 0) tr x, [(ad 3, .inl (D.1 106, 2, .inr (.inr (.inr (.inr (pRef jf))))))], [(sa 0, .inr (2, [.int (zc 16), .int (zc 1), .int (zc 0), .int zwn, .ref (sa 1), .ref (sa 2), .ref (sa 3), .ref (sa 4)]))], [(sa 1, .inr (16, [.int md1_35, .ref d, .int (nI zn)]))], [(sa 2, .inl (D.1 100, 7, .inl (fun i_ => zc (9 + i_))))], [(sa 3, .inl (D.1 100, 7, .inl (fun i_ => zc (2 + i_))))], [(sa 4, .inl (D.1 100, 7, .inl od))], [(d, .inl (D.1 104, 10, .inr (.inr (.inr (.inr (rF zra zn))))))], pstP D jf 2, T] (gs_perm (pstP D jf 2) 8 2 rfl (pst_cs (by omega) hq)) ?_
        refine z_pop (pc := 38) gX dX0_restore_38 rfl ?_
        refine z_aload_n (pc := 39) gX 0 dX0_restore_39 rfl rfl ?_
        refine z_iconst (pc := 40) gX 0 dX0_restore_40 (by decide) ?_
        refine z_put (pc := 41) gX hAX 0 rfl (ci := 0) (C := RX0) (T := TX0) (N := 14) rfl in_X0 tyX0 tyX0_ok nmX0 7 (by decide) q216 (fun _ h => h) rfl (v := .int 0) rfl rfl (Nat.le_of_ble_eq_true rfl) [cOb o ad (sa 0) (sb 0) tr (upd x 2 0), [(ad 3, .inl (D.1 106, 2, .inr (.inr (.inr (.inr (pRef jf))))))], [(sa 0, .inr (2, [.int (zc 16), .int (zc 1), .int (zc 0), .int zwn, .ref (sa 1), .ref (sa 2), .ref (sa 3), .ref (sa 4)]))], [(sa 1, .inr (16, [.int md1_35, .ref d, .int (nI zn)]))], [(sa 2, .inl (D.1 100, 7, .inl (fun i_ => zc (9 + i_))))], [(sa 3, .inl (D.1 100, 7, .inl (fun i_ => zc (2 + i_))))], [(sa 4, .inl (D.1 100, 7, .inl od))], [(d, .inl (D.1 104, 10, .inr (.inr (.inr (.inr (rF zra zn))))))], pstP D jf 2, T] rfl dX0_restore_41 ?_
        refine z_iconst (pc := 44) gX 1 dX0_restore_44 (by decide) ?_
        refine z_ws [cOb o ad (sa 0) (sb 0) tr (upd x 2 0), [(ad 3, .inl (D.1 106, 2, .inr (.inr (.inr (.inr (pRef jf))))))], thP D sa ((some d, zn, zra), (md1_35, zwn, od), zc), pstP D jf 2, T] (List.Perm.refl _) ?_
        exact z_rim gX hQX (1, upd xm 3 0, 0, zk, some d, zn, zra, md1_35, zwn, zc) (⟨by simp only [mRestore, k7, if_neg hk0, nI_clamp (show i < 2 ^ 31 by omega), if_true], fun j hj => by simp only [mRestore, k7, if_neg hk0, nI_clamp (show i < 2 ^ 31 by omega), if_true]; exact hz j hj, rest_ok hA.2.2.2.2.1 hG2 hn2⟩) rfl rfl (by first | decide | omega) (by first | decide | omega) dX0_restore_45
    · skip
      have k7 : (mIn v 0 1) = false := bI_eq0 c7
      refine z_ldc (pc := 10) gX q350 dX0_restore_10 ?_
      refine z_ws [cOb o ad (sa 0) (sb 0) tr x, [(ad 3, .inl (D.1 106, 2, .inr (.inr (.inr (.inr (pRef jf))))))], thP D sa ((some d, n, ra), (md, wn, od), c), pstP D jf 2, T] (List.Perm.refl _) ?_
      exact z_rim gX hQX ((-1000001), xm, kn, k, some d, n, ra, md, wn, c) (⟨by simp [mRestore, k7], fun j hj => by simp [mRestore, k7], hS0, hA⟩) rfl (by simp only [show upd x 2 (nI kn) = x by rw [← hx]; exact upd_self _ _]) (by first | decide | omega) (by first | decide | omega) dX0_restore_12
theorem hd_X0_restore : zHd yX0_restore 1 := by unfold zHd; decide +kernel

