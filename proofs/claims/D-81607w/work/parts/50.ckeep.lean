set_option maxRecDepth 100000
/-! ACTS KEPT behind one another: the past, as a pool of stairs -/
theorem sg_perm {ws ws' : List va_W} {w : va_W} (ws2 : List va_W) (i : Nat) (h1 : ws[i]? = some w) (h2 : ws.take i ++ (ws2 ++ ws.drop (i + 1)) = ws') (hp : w.Perm ws2.flatten) : ws.flatten.Perm ws'.flatten := by
  subst h2
  obtain ⟨hi, rfl⟩ := List.getElem?_eq_some_iff.mp h1
  have e : ws = ws.take i ++ (ws[i] :: ws.drop (i + 1)) := by rw [← List.drop_eq_getElem_cons hi, List.take_append_drop]
  have e2 : ws.flatten = (ws.take i).flatten ++ (ws[i] ++ (ws.drop (i + 1)).flatten) := by
    conv => lhs; rw [e]
    rw [List.flatten_append, List.flatten_cons]
  rw [e2, List.flatten_append, List.flatten_append]
  exact List.Perm.append_left _ (List.Perm.append_right _ hp)
theorem gs_perm {ws ws' : List va_W} (w : va_W) (i n : Nat) (h2 : ws.take i ++ (w :: (ws.drop i).drop n) = ws') (hp : ((ws.drop i).take n).flatten.Perm w) : ws.flatten.Perm ws'.flatten := by
  subst h2
  have e : ws = ws.take i ++ ((ws.drop i).take n ++ (ws.drop i).drop n) := by rw [List.take_append_drop, List.take_append_drop]
  have e2 : ws.flatten = (ws.take i).flatten ++ (((ws.drop i).take n).flatten ++ ((ws.drop i).drop n).flatten) := by
    conv => lhs; rw [e]
    rw [List.flatten_append, List.flatten_append]
  rw [e2, List.flatten_append, List.flatten_cons]
  exact List.Perm.append_left _ (List.Perm.append_right _ hp)
abbrev sP : Type := (Nat → Nat) × sT
abbrev pF : Type := Nat → Option sP
def slotP (D : va_G) (s : Option sP) : va_W := match s with
  | none => []
  | some s => thP D s.1 s.2
def pstP (D : va_G) (pf : pF) : Nat → va_W
  | 0 => []
  | m + 1 => pstP D pf m ++ slotP D (pf m)
def pRef (pf : pF) : Nat → Option Nat := fun i => (pf i).map (fun s => s.1 0)
def setS (pf : pF) (a : Nat) (v : Option sP) : pF := fun i => if i = a then v else pf i
def rotF (pf : pF) : pF := fun i => if i < 23 then pf (i + 1) else if i = 23 then pf 0 else pf i
def keepF (kn : Nat) (pf : pF) (s : sP) : pF := if kn = 24 then setS (rotF pf) 23 (some s) else setS pf kn (some s)
theorem pst_congr {D : va_G} {pf pg : pF} : ∀ m, (∀ i, i < m → pf i = pg i) → pstP D pf m = pstP D pg m
  | 0, _ => rfl
  | m + 1, h => by simp only [pstP]; rw [pst_congr m (fun i hi => h i (by omega)), h m (by omega)]
theorem pst_open {D : va_G} {pf : pF} {a : Nat} : ∀ m, a < m → (pstP D pf m).Perm (slotP D (pf a) ++ pstP D (setS pf a none) m)
  | 0, h => by omega
  | m + 1, h => by
    simp only [pstP]
    rcases (show a < m ∨ a = m by omega) with e | e
    · rw [show setS pf a none m = pf m from if_neg (by omega)]
      exact ((pst_open m e).append_right _).trans (by rw [List.append_assoc])
    · subst e
      rw [show setS pf a none a = none from if_pos rfl, pst_congr (pf := setS pf a none) (pg := pf) a (fun i hi => if_neg (by omega))]
      show (pstP D pf a ++ slotP D (pf a)).Perm (slotP D (pf a) ++ (pstP D pf a ++ []))
      rw [List.append_nil]
      exact List.perm_append_comm
theorem pst_o1 {D : va_G} {pf : pF} {a m : Nat} (h : a < m) (hn : pf a = none) : (pstP D pf m).Perm [pstP D (setS pf a none) m].flatten := by
  have := pst_open (D := D) (pf := pf) m h
  rw [hn] at this
  simpa [slotP] using this
theorem pst_o2 {D : va_G} {pf : pF} {a m : Nat} {q : Nat → Nat} {s : sT} (h : a < m) (hn : pf a = some (q, s)) : (pstP D pf m).Perm [thP D q s, pstP D (setS pf a none) m].flatten := by
  have := pst_open (D := D) (pf := pf) m h
  rw [hn] at this
  simpa [slotP] using this
theorem setS_setS {pf : pF} {a : Nat} {v w : Option sP} : setS (setS pf a v) a w = setS pf a w := by
  funext i; simp only [setS]; split <;> rfl
theorem pst_c {D : va_G} {pf : pF} {a m : Nat} {q : Nat → Nat} {s : sT} (h : a < m) : [thP D q s, pstP D (setS pf a none) m].flatten.Perm (pstP D (setS pf a (some (q, s))) m) := by
  have := pst_o2 (D := D) (pf := setS pf a (some (q, s))) (q := q) (s := s) h (if_pos rfl)
  rw [setS_setS] at this
  exact this.symm
theorem pst_sh {D : va_G} {pf : pF} : ∀ m, (pstP D pf (m + 1)).Perm (slotP D (pf 0) ++ pstP D (fun i => pf (i + 1)) m)
  | 0 => by simp only [pstP]; rw [List.append_nil]; exact List.Perm.refl _
  | m + 1 => by
    show (pstP D pf (m + 1) ++ slotP D (pf (m + 1))).Perm (slotP D (pf 0) ++ (pstP D (fun i => pf (i + 1)) m ++ slotP D (pf (m + 1))))
    rw [← List.append_assoc]
    exact (pst_sh m).append_right _
theorem pst_rot {D : va_G} {pf : pF} : (pstP D pf 24).Perm (pstP D (rotF pf) 24) := by
  refine (pst_sh (D := D) (pf := pf) 23).trans ?_
  show (slotP D (pf 0) ++ pstP D (fun i => pf (i + 1)) 23).Perm (pstP D (rotF pf) 23 ++ slotP D (rotF pf 23))
  rw [pst_congr (pf := rotF pf) (pg := fun i => pf (i + 1)) 23 (fun i hi => if_pos hi), show rotF pf 23 = pf 0 from rfl]
  exact List.perm_append_comm
theorem pst_mem {D : va_G} {pf : pF} {i : Nat} {s : sP} (h : pf i = some s) : ∀ m, i < m → (s.1 0, (Sum.inr (2, [.int (s.2.2.2 16), .int (s.2.2.2 1), .int (s.2.2.2 0), .int s.2.2.1.2.1, .ref (s.1 1), .ref (s.1 2), .ref (s.1 3), .ref (s.1 4)]) : va_E)) ∈ pstP D pf m
  | 0, hm => by omega
  | m + 1, hm => by
    simp only [pstP, List.mem_append]
    rcases (show i < m ∨ i = m by omega) with e | e
    · exact Or.inl (pst_mem h m e)
    · subst e; rw [h]; exact Or.inr List.mem_cons_self
def shR (pf : pF) (i : Nat) : Nat → Option Nat := fun q => if q + 1 < i then pRef pf (q + 1) else pRef pf q
theorem shR_1 {pf : pF} : pRef pf = shR pf 1 := by funext q; simp only [shR]; rw [if_neg (by omega)]
theorem shR_s {pf : pF} {i : Nat} {v : Nat} (h1 : 1 ≤ i) (h : pRef pf i = some v) : va_up (shR pf i) (i - 1) (some v) = shR pf (i + 1) := by
  funext q
  simp only [va_up, shR]
  by_cases e : q = i - 1
  · rw [if_pos e, if_pos (by omega), show q + 1 = i by omega, h]
  · rw [if_neg e]
    by_cases e2 : q + 1 < i
    · rw [if_pos e2, if_pos (by omega)]
    · rw [if_neg e2, if_neg (by omega)]
theorem shR_e {pf : pF} {v : Nat} (h : pRef pf 0 = some v) : va_up (shR pf 24) 23 (some v) = pRef (rotF pf) := by
  funext q
  simp only [va_up, shR, pRef, rotF] at *
  by_cases e : q = 23
  · rw [if_pos e, if_neg (by omega), if_pos e, h]
  · rw [if_neg e]
    by_cases e2 : q < 23
    · rw [if_pos (by omega), if_pos e2]
    · rw [if_neg (by omega), if_neg e2, if_neg e]
theorem pRef_set {pf : pF} {a : Nat} {s : sP} : va_up (pRef pf) a (some (s.1 0)) = pRef (setS pf a (some s)) := by
  funext q
  simp only [va_up, pRef, setS]
  by_cases e : q = a
  · rw [if_pos e, if_pos e]; rfl
  · rw [if_neg e, if_neg e]
theorem pRef_same {pf : pF} {a : Nat} {s : sP} (h : pRef pf a = some (s.1 0)) : pRef pf = pRef (setS pf a (some s)) := by
  rw [← pRef_set]
  funext q
  simp only [va_up]
  by_cases e : q = a
  · rw [if_pos e, e, h]
  · rw [if_neg e]
theorem pRef_i {pf : pF} {i : Nat} {s : sP} (h : pf i = some s) : pRef pf i = some (s.1 0) := by simp only [pRef, h]; rfl
theorem pRef_n {pf : pF} {i : Nat} (h : pf i = none) : pRef pf i = none := by simp only [pRef, h]; rfl
theorem up_s {f : Nat → Option Nat} {i : Nat} {v : Option Nat} : va_up f i v i = v := if_pos rfl
def ad5 (a b c d e : Nat) : Nat → Nat := fun i => match i with
  | 0 => a
  | 1 => b
  | 2 => c
  | 3 => d
  | _ => e
def pfG (pf : pF) : Prop := ∀ i s, pf i = some s → (∃ d, s.2.1.1 = some d) ∧ s.2.1.2.1 ≤ 7
theorem pfG_rot {pf : pF} (h : pfG pf) : pfG (rotF pf) := by
  intro i s e
  simp only [rotF] at e
  split at e
  · exact h _ s e
  · split at e
    · exact h _ s e
    · exact h _ s e
theorem pfG_set {pf : pF} {a : Nat} {s : sP} (h : pfG pf) (hs : (∃ d, s.2.1.1 = some d) ∧ s.2.1.2.1 ≤ 7) : pfG (setS pf a (some s)) := by
  intro i t e
  simp only [setS] at e
  split at e
  · cases e; exact hs
  · exact h _ t e
theorem pfG_keep {pf : pF} {kn : Nat} {s : sP} (h : pfG pf) (hs : (∃ d, s.2.1.1 = some d) ∧ s.2.1.2.1 ≤ 7) : pfG (keepF kn pf s) := by
  simp only [keepF]; split
  · exact pfG_set (pfG_rot h) hs
  · exact pfG_set h hs
/-- nobody stands where another does -/
def nC (n : Nat) (c : Nat → Int32) : Prop := ∀ r q, r < n → q < n → ¬ r = q → mOn (c (2 + r)) = true → c (2 + r) = c (2 + q) → mMeets c r q (c (9 + r)) = false
/-- speed and places within bounds -/
def wR (n : Nat) (c : Nat → Int32) : Prop := mIn (c 1) 0 2 = true ∧ ∀ r, r < n → mOn (c (2 + r)) = true → mIn (c (2 + r)) 0 (c 16 - 1) = true
def nW (n : Nat) (c : Nat → Int32) : Prop := nC n c ∧ wR n c
/-- a stair with n riders, k steps, nobody upon another -/
def rowOK (n k : Nat) (c : Nat → Int32) : Prop := c 17 = nI n ∧ c 16 = nI k ∧ (∀ q, q < n → c (9 + q) = 0 ∨ c (9 + q) = 1) ∧ nW n c
/-- the past kept: as the reference keeps it -/
def pastR (n k : Nat) (ra : Nat → Nat) (pf : pF) (kn : Nat) (pa c : Nat → Int32) : Prop := kn ≤ 24 ∧ pfG pf ∧ ∀ i, i < kn → ∃ q d m ci, pf i = some (q, ((some d, n, ra), m, ci)) ∧ (∀ j, j < 16 → ci j = pa (16 * i + j)) ∧ (∀ j, 16 ≤ j → ci j = c j) ∧ rowOK n k ci
theorem pastR.row {n k : Nat} {ra : Nat → Nat} {pf : pF} {kn : Nat} {pa c c1 : Nat → Int32} (h : pastR n k ra pf kn pa c) (hc : ∀ j, 16 ≤ j → c1 j = c j) : pastR n k ra pf kn pa c1 :=
  ⟨h.1, h.2.1, fun i hi => by
    obtain ⟨q, d, m, ci, h1, h2, h3, h4⟩ := h.2.2 i hi
    exact ⟨q, d, m, ci, h1, h2, fun j hj => (h3 j hj).trans (hc j hj).symm, h4⟩⟩
theorem pastR.keep {n k : Nat} {ra : Nat → Nat} {pf : pF} {kn : Nat} {pa c : Nat → Int32} {s : sP} {d : Nat} {m : Int32 × Int32 × (Nat → Int32)} (h : pastR n k ra pf kn pa c) (hs : s.2 = ((some d, n, ra), m, c)) (hn : n ≤ 7) (hc : rowOK n k c) : pastR n k ra (keepF kn pf s) (knK kn) (mKeepP kn pa c) c := by
  have hG : pfG (keepF kn pf s) := pfG_keep h.2.1 (by rw [hs]; exact ⟨⟨d, rfl⟩, hn⟩)
  have es : s = (s.1, ((some d, n, ra), m, c)) := by rw [← hs]
  have hkn := h.1
  refine ⟨by simp only [knK]; split <;> omega, hG, fun i hi => ?_⟩
  by_cases e : kn = 24
  · simp only [keepF, knK, mKeepP, if_pos e] at hi ⊢
    by_cases e2 : i = 23
    · refine ⟨s.1, d, m, c, by rw [e2, ← es]; exact if_pos rfl, fun j hj => ?_, fun j _ => rfl, hc⟩
      simp only [cpT]; rw [if_pos (by omega), show 16 * i + j - 16 * 23 = j by omega]
    · obtain ⟨q, d1, m1, ci, h1, h2, h3, h4⟩ := h.2.2 (i + 1) (by omega)
      refine ⟨q, d1, m1, ci, by simp only [setS, if_neg e2, rotF]; rw [if_pos (by omega)]; exact h1, fun j hj => ?_, h3, h4⟩
      simp only [cpT]; rw [if_neg (by omega)]; simp only [shP]; rw [if_pos (by omega), h2 j hj, show 16 * (i + 1) + j = 16 * i + j + 16 by omega]
  · simp only [keepF, knK, mKeepP, if_neg e] at hi ⊢
    by_cases e2 : i = kn
    · refine ⟨s.1, d, m, c, by rw [e2, ← es]; exact if_pos rfl, fun j hj => ?_, fun j _ => rfl, hc⟩
      simp only [cpT]; rw [if_pos (by omega), show 16 * i + j - 16 * kn = j by omega]
    · obtain ⟨q, d1, m1, ci, h1, h2, h3, h4⟩ := h.2.2 i (by omega)
      refine ⟨q, d1, m1, ci, by simp only [setS, if_neg e2]; exact h1, fun j hj => ?_, h3, h4⟩
      simp only [cpT]; rw [if_neg (by omega)]; exact h2 j hj
theorem pastR.some {n k : Nat} {ra : Nat → Nat} {pf : pF} {kn : Nat} {pa c : Nat → Int32} (h : pastR n k ra pf kn pa c) : ∀ i, i < kn → ∃ s, pf i = Option.some s := fun i hi => by
  obtain ⟨q, d, m, ci, h1, _⟩ := h.2.2 i hi
  exact ⟨_, h1⟩

set_option maxHeartbeats 4000000 in
theorem met_X0_keep (l : Launch) (D : va_G) (B0 : Nat) (A : Nat → Prop) (o : Nat) (ad : Nat → Nat) (sa : Nat → Nat) (sb : Nat → Nat) (tr : Nat) (x : Nat → Int32) (wn : Int32) (md : Int32) (d : Nat) (n : Nat) (c : Nat → Int32) (od : Nat → Int32) (ra : Nat → Nat) (T : va_W) (k : Nat) (pf : pF) (kn : Nat) (hG : gOK T n k ra c) (hkn : x 2 = nI kn) (hkn24 : kn ≤ 24) (hfill : ∀ i, i < kn → ∃ s, pf i = some s) (hpf : pfG pf) : Met l yX0_keep (ws_ yX0_keep cX0_keep 3 none) (zRm 7 6 42) (va_Pc [.ref o] (zPre B0 D A [cOb o ad (sa 0) (sb 0) tr x, [(ad 2, .inl (D.1 106, 24, .inr (.inr (.inr (.inr (pRef pf))))))], [(sa 0, .inr (2, [.int (c 16), .int (c 1), .int (c 0), .int wn, .ref (sa 1), .ref (sa 2), .ref (sa 3), .ref (sa 4)]))], [(sa 1, .inr (16, [.int md, .ref d, .int (nI n)]))], [(sa 2, .inl (D.1 100, 7, .inl (fun i_ => c (9 + i_))))], [(sa 3, .inl (D.1 100, 7, .inl (fun i_ => c (2 + i_))))], [(sa 4, .inl (D.1 100, 7, .inl od))], [(d, .inl (D.1 104, 10, .inr (.inr (.inr (.inr (rF ra n))))))], pstP D pf 24, T])) (zQ (S := sP) (fun u => (fun (s1 : sP) => ∃ d1 md1 od1, s1.2 = ((some d1, n, ra), (md1, wn, od1), c)) u) (fun u => (fun (s1 : sP) => none) u) (fun u => (fun (s1 : sP) => [cOb o ad (sa 0) (sb 0) tr (upd x 2 (nI (knK kn))), [(ad 2, .inl (D.1 106, 24, .inr (.inr (.inr (.inr (pRef (keepF kn pf s1)))))))], [(sa 0, .inr (2, [.int (c 16), .int (c 1), .int (c 0), .int wn, .ref (sa 1), .ref (sa 2), .ref (sa 3), .ref (sa 4)]))], [(sa 1, .inr (16, [.int md, .ref d, .int (nI n)]))], [(sa 2, .inl (D.1 100, 7, .inl (fun i_ => c (9 + i_))))], [(sa 3, .inl (D.1 100, 7, .inl (fun i_ => c (2 + i_))))], [(sa 4, .inl (D.1 100, 7, .inl od))], [(d, .inl (D.1 104, 10, .inr (.inr (.inr (.inr (rF ra n))))))], pstP D (keepF kn pf s1) 24, T]) u) D A) 6 42 A := by
  refine z_entry (by decide +kernel) (Nat.le_of_ble_eq_true rfl) (fun pX eX sX mX argsX blX mtX cX QX hQX gX hAX hnm => ?_)
  refine z_eq (lv₂ := [(0, .ref o)]) (st₂ := []) ?_ rfl rfl
  have hK := hG.k
  have hn7 := hG.2.1
  refine z_aload_n (pc := 0) gX 0 dX0_keep_0 rfl rfl ?_
  refine z_get (pc := 1) gX (zI_ok gX hAX) (zm 0 rfl) (ci := 0) (C := RX0) (T := TX0) (N := 14) rfl in_X0 7 (by decide) q216 (fun _ h => h) (v := .int (x 2)) rfl dX0_keep_1 ?_
  refine z_top (nI kn) hkn ?_
  refine z_bipush (pc := 4) gX 24 dX0_keep_4 (by decide) ?_
  refine z_icmp_ne (pc := 6) gX 62 dX0_keep_6 (by decide) (fun c6 => ?_) (fun c6 => ?_)
  · skip
    have k6 : ¬ kn = 24 := fun h => c6 ((zn_eq (a := kn) (b := 24) (by omega) (by omega)).mpr h)
    have hK24 : kn < 24 := by omega
    refine z_aload_n (pc := 62) gX 0 dX0_keep_62 rfl rfl ?_
    refine z_get (pc := 63) gX (zI_ok gX hAX) (zm 0 rfl) (ci := 0) (C := RX0) (T := TX0) (N := 14) rfl in_X0 6 (by decide) q215 (fun _ h => h) (v := .ref (ad 2)) rfl dX0_keep_63 ?_
    refine z_aload_n (pc := 66) gX 0 dX0_keep_66 rfl rfl ?_
    refine z_get (pc := 67) gX (zI_ok gX hAX) (zm 0 rfl) (ci := 0) (C := RX0) (T := TX0) (N := 14) rfl in_X0 7 (by decide) q216 (fun _ h => h) (v := .int (x 2)) rfl dX0_keep_67 ?_
    refine z_top (nI kn) hkn ?_
    rcases hq : pf kn with _ | ⟨pq, ⟨za, zn, zra⟩, ⟨zmd, zwn, zod⟩, zc⟩
    · skip
      refine z_ws [cOb o ad (sa 0) (sb 0) tr x, [(ad 2, .inl (D.1 106, 24, .inr (.inr (.inr (.inr (pRef pf))))))], [(sa 0, .inr (2, [.int (c 16), .int (c 1), .int (c 0), .int wn, .ref (sa 1), .ref (sa 2), .ref (sa 3), .ref (sa 4)]))], [(sa 1, .inr (16, [.int md, .ref d, .int (nI n)]))], [(sa 2, .inl (D.1 100, 7, .inl (fun i_ => c (9 + i_))))], [(sa 3, .inl (D.1 100, 7, .inl (fun i_ => c (2 + i_))))], [(sa 4, .inl (D.1 100, 7, .inl od))], [(d, .inl (D.1 104, 10, .inr (.inr (.inr (.inr (rF ra n))))))], pstP D (setS pf kn none) 24, T] (sg_perm [pstP D (setS pf kn none) 24] 8 rfl rfl (pst_o1 (by omega) hq)) ?_
      refine z_aldN (pc := 70) gX (zI_ok gX hAX) (j := kn) (n := 24) (f := (pRef pf)) (zm 1 rfl) 6 rfl (by omega) (by decide) (pRef_n hq) dX0_keep_70 ?_
      refine z_ifnonnullN (pc := 71) gX dX0_keep_71 ?_
      refine z_aload_n (pc := 74) gX 0 dX0_keep_74 rfl rfl ?_
      refine z_get (pc := 75) gX (zI_ok gX hAX) (zm 0 rfl) (ci := 0) (C := RX0) (T := TX0) (N := 14) rfl in_X0 6 (by decide) q215 (fun _ h => h) (v := .ref (ad 2)) rfl dX0_keep_75 ?_
      refine z_aload_n (pc := 78) gX 0 dX0_keep_78 rfl rfl ?_
      refine z_get (pc := 79) gX (zI_ok gX hAX) (zm 0 rfl) (ci := 0) (C := RX0) (T := TX0) (N := 14) rfl in_X0 7 (by decide) q216 (fun _ h => h) (v := .int (x 2)) rfl dX0_keep_79 ?_
      refine z_top (nI kn) hkn ?_
      refine z_new (pc := 82) gX hAX (ci := 2) (C := RX2) (T := TX2) (N := 8) rfl in_X2 tyX2 tyX2_ok q111 q112 q49 [.int 0, .int 0, .int 0, .int 0, .null, .null, .null, .null] (by decide +kernel) (by decide) (by decide) dX0_keep_82 (fun q82 => ?_)
      refine z_norm [cOb o ad (sa 0) (sb 0) tr x, [(ad 2, .inl (D.1 106, 24, .inr (.inr (.inr (.inr (pRef pf))))))], [(sa 0, .inr (2, [.int (c 16), .int (c 1), .int (c 0), .int wn, .ref (sa 1), .ref (sa 2), .ref (sa 3), .ref (sa 4)]))], [(sa 1, .inr (16, [.int md, .ref d, .int (nI n)]))], [(sa 2, .inl (D.1 100, 7, .inl (fun i_ => c (9 + i_))))], [(sa 3, .inl (D.1 100, 7, .inl (fun i_ => c (2 + i_))))], [(sa 4, .inl (D.1 100, 7, .inl od))], [(d, .inl (D.1 104, 10, .inr (.inr (.inr (.inr (rF ra n))))))], pstP D (setS pf kn none) 24, T, [(q82, .inr (2, [.int 0, .int 0, .int 0, .int 0, .null, .null, .null, .null]))]] 1 8 ?_ rfl rfl rfl
      refine z_re [0, 1, 2, 3, 4, 5, 6, 7, 10, 8, 9] [cOb o ad (sa 0) (sb 0) tr x, [(ad 2, .inl (D.1 106, 24, .inr (.inr (.inr (.inr (pRef pf))))))], [(sa 0, .inr (2, [.int (c 16), .int (c 1), .int (c 0), .int wn, .ref (sa 1), .ref (sa 2), .ref (sa 3), .ref (sa 4)]))], [(sa 1, .inr (16, [.int md, .ref d, .int (nI n)]))], [(sa 2, .inl (D.1 100, 7, .inl (fun i_ => c (9 + i_))))], [(sa 3, .inl (D.1 100, 7, .inl (fun i_ => c (2 + i_))))], [(sa 4, .inl (D.1 100, 7, .inl od))], [(d, .inl (D.1 104, 10, .inr (.inr (.inr (.inr (rF ra n))))))], [(q82, .inr (2, [.int 0, .int 0, .int 0, .int 0, .null, .null, .null, .null]))], pstP D (setS pf kn none) 24, T] rfl (zpl 11 rfl (by decide +kernel)) ?_
      refine z_dup (pc := 85) gX dX0_keep_85 rfl ?_
      refine z_cMIN (pc := 86) gX hAX [] [.ref q82, .int (nI kn), .ref (ad 2)] [8] [0, 1, 2, 3, 4, 5, 6, 7, 9, 10] (fun A1 => met_X2_init l D B0 A1 q82 ) (zm 2 rfl) q114 q49 rfl hd_X2_init q115 ⟨rfl, rfl⟩ ⟨(Nat.le_of_ble_eq_true rfl), (Nat.le_of_ble_eq_true rfl)⟩ rfl rfl (zpl 11 rfl (by decide +kernel)) rfl rfl (Nat.le_of_ble_eq_true rfl) ⟨(Nat.le_of_ble_eq_true rfl), (Nat.le_of_ble_eq_true rfl)⟩ dX0_keep_86 ?_
      intro u86 hu86
      obtain ⟨a1_86, a2_86, a3_86, a4_86⟩ := u86
      refine z_re [5, 6, 7, 8, 9, 10, 11, 12, 0, 1, 2, 3, 4, 13, 14] [cOb o ad (sa 0) (sb 0) tr x, [(ad 2, .inl (D.1 106, 24, .inr (.inr (.inr (.inr (pRef pf))))))], [(sa 0, .inr (2, [.int (c 16), .int (c 1), .int (c 0), .int wn, .ref (sa 1), .ref (sa 2), .ref (sa 3), .ref (sa 4)]))], [(sa 1, .inr (16, [.int md, .ref d, .int (nI n)]))], [(sa 2, .inl (D.1 100, 7, .inl (fun i_ => c (9 + i_))))], [(sa 3, .inl (D.1 100, 7, .inl (fun i_ => c (2 + i_))))], [(sa 4, .inl (D.1 100, 7, .inl od))], [(d, .inl (D.1 104, 10, .inr (.inr (.inr (.inr (rF ra n))))))], [(q82, .inr (2, [.int 0, .int 0, .int 0, .int 0, .ref a1_86, .ref a2_86, .ref a3_86, .ref a4_86]))], [(a1_86, .inr (16, [.int 0, .ref (zEE D), .int (nI 0)]))], [(a2_86, .inl (D.1 100, 7, .inl (fun _ => 0)))], [(a3_86, .inl (D.1 100, 7, .inl (fun _ => 0)))], [(a4_86, .inl (D.1 100, 7, .inl (fun _ => 0)))], pstP D (setS pf kn none) 24, T] rfl (zpl 15 rfl (by decide +kernel)) ?_
      refine z_norm [cOb o ad (sa 0) (sb 0) tr x, [(ad 2, .inl (D.1 106, 24, .inr (.inr (.inr (.inr (pRef pf))))))], [(sa 0, .inr (2, [.int (c 16), .int (c 1), .int (c 0), .int wn, .ref (sa 1), .ref (sa 2), .ref (sa 3), .ref (sa 4)]))], [(sa 1, .inr (16, [.int md, .ref d, .int (nI n)]))], [(sa 2, .inl (D.1 100, 7, .inl (fun i_ => c (9 + i_))))], [(sa 3, .inl (D.1 100, 7, .inl (fun i_ => c (2 + i_))))], [(sa 4, .inl (D.1 100, 7, .inl od))], [(d, .inl (D.1 104, 10, .inr (.inr (.inr (.inr (rF ra n))))))], [(q82, .inr (2, [.int 0, .int 0, .int 0, .int 0, .ref a1_86, .ref a2_86, .ref a3_86, .ref a4_86]))], [(a1_86, .inr (16, [.int 0, .ref (zEE D), .int (nI 0)]))], [(a2_86, .inl (D.1 100, 7, .inl (fun _ => 0)))], [(a3_86, .inl (D.1 100, 7, .inl (fun _ => 0)))], [(a4_86, .inl (D.1 100, 7, .inl (fun _ => 0)))], pstP D (setS pf kn none) 24, T] 5 32 ?_ rfl rfl rfl
      refine z_eq (lv₂ := [(0, .ref o)]) (st₂ := [.ref q82, .int (nI kn), .ref (ad 2)]) ?_ rfl rfl
      obtain ⟨pq, rfl, rfl, rfl, rfl, rfl⟩ : ∃ pq : Nat → Nat, pq 0 = q82 ∧ pq 1 = a1_86 ∧ pq 2 = a2_86 ∧ pq 3 = a3_86 ∧ pq 4 = a4_86 := ⟨ad5 q82 a1_86 a2_86 a3_86 a4_86, rfl, rfl, rfl, rfl, rfl⟩
      refine z_ast (pc := 89) gX hAX 1 (j := kn) (n := 24) (f := (pRef pf)) rfl 6 rfl (by omega) (by decide) (zm 8 rfl) (show vwCl[2]? = _ from rfl) (fun comp c0 h1 h2 => vb_asgS comp c0 h1 h2) [cOb o ad (sa 0) (sb 0) tr x, [(ad 2, .inl (D.1 106, 24, .inr (.inr (.inr (.inr (va_up (pRef pf) kn (some (pq 0))))))))], [(sa 0, .inr (2, [.int (c 16), .int (c 1), .int (c 0), .int wn, .ref (sa 1), .ref (sa 2), .ref (sa 3), .ref (sa 4)]))], [(sa 1, .inr (16, [.int md, .ref d, .int (nI n)]))], [(sa 2, .inl (D.1 100, 7, .inl (fun i_ => c (9 + i_))))], [(sa 3, .inl (D.1 100, 7, .inl (fun i_ => c (2 + i_))))], [(sa 4, .inl (D.1 100, 7, .inl od))], [(d, .inl (D.1 104, 10, .inr (.inr (.inr (.inr (rF ra n))))))], [(pq 0, .inr (2, [.int 0, .int 0, .int 0, .int 0, .ref (pq 1), .ref (pq 2), .ref (pq 3), .ref (pq 4)]))], [(pq 1, .inr (16, [.int 0, .ref (zEE D), .int (nI 0)]))], [(pq 2, .inl (D.1 100, 7, .inl (fun _ => 0)))], [(pq 3, .inl (D.1 100, 7, .inl (fun _ => 0)))], [(pq 4, .inl (D.1 100, 7, .inl (fun _ => 0)))], pstP D (setS pf kn none) 24, T] rfl dX0_keep_89 ?_
      refine z_aload_n (pc := 90) gX 0 dX0_keep_90 rfl rfl ?_
      refine z_get (pc := 91) gX (zI_ok gX hAX) (zm 0 rfl) (ci := 0) (C := RX0) (T := TX0) (N := 14) rfl in_X0 6 (by decide) q215 (fun _ h => h) (v := .ref (ad 2)) rfl dX0_keep_91 ?_
      refine z_aload_n (pc := 94) gX 0 dX0_keep_94 rfl rfl ?_
      refine z_get (pc := 95) gX (zI_ok gX hAX) (zm 0 rfl) (ci := 0) (C := RX0) (T := TX0) (N := 14) rfl in_X0 7 (by decide) q216 (fun _ h => h) (v := .int (x 2)) rfl dX0_keep_95 ?_
      refine z_top (nI kn) hkn ?_
      refine z_ald (pc := 98) gX (zI_ok gX hAX) (j := kn) (n := 24) (f := (va_up (pRef pf) kn (some (pq 0)))) (zm 1 rfl) 6 rfl (by omega) (by decide) (pq 0) up_s dX0_keep_98 ?_
      refine z_aload_n (pc := 99) gX 0 dX0_keep_99 rfl rfl ?_
      refine z_get (pc := 100) gX (zI_ok gX hAX) (zm 0 rfl) (ci := 0) (C := RX0) (T := TX0) (N := 14) rfl in_X0 4 (by decide) q213 (fun _ h => h) (v := .ref (sa 0)) rfl dX0_keep_100 ?_
      refine z_cMV (pc := 103) gX hAX [.ref (sa 0)] [] [8, 9, 10, 11, 12, 2, 3, 4, 5, 6, 7, 14] [0, 1, 13] (fun A1 => met_X2_becomeF l D B0 A1 sa (c 16) (c 1) (c 0) wn md d n (fun i_ => c (9 + i_)) (fun i_ => c (2 + i_)) od ra (fun r => c (18 + r)) T pq 0 0 0 0 0 (fun _ => 0) (fun _ => 0) (fun _ => 0) hG.2.1 hG.2.2.2.2.2.2.2 hG.1) q784 q785 q786 q49 q787 (zm 8 rfl) (ci := 2) rfl rfl hd_X2_become ⟨rfl, rfl⟩ ⟨(Nat.le_of_ble_eq_true rfl), (Nat.le_of_ble_eq_true rfl)⟩ rfl rfl (zpl 15 rfl (by decide +kernel)) rfl rfl (Nat.le_of_ble_eq_true rfl) ⟨(Nat.le_of_ble_eq_true rfl), (Nat.le_of_ble_eq_true rfl)⟩ dX0_keep_103 ?_
      intro u103 hu103
      obtain ⟨md1_103, zd_103⟩ := u103
      refine z_re [13, 14, 5, 6, 7, 8, 9, 10, 0, 1, 2, 3, 4, 11, 12, 15] [cOb o ad (sa 0) (sb 0) tr x, [(ad 2, .inl (D.1 106, 24, .inr (.inr (.inr (.inr (va_up (pRef pf) kn (some (pq 0))))))))], [(sa 0, .inr (2, [.int (c 16), .int (c 1), .int (c 0), .int wn, .ref (sa 1), .ref (sa 2), .ref (sa 3), .ref (sa 4)]))], [(sa 1, .inr (16, [.int md, .ref d, .int (nI n)]))], [(sa 2, .inl (D.1 100, 7, .inl (fun i_ => c (9 + i_))))], [(sa 3, .inl (D.1 100, 7, .inl (fun i_ => c (2 + i_))))], [(sa 4, .inl (D.1 100, 7, .inl od))], [(d, .inl (D.1 104, 10, .inr (.inr (.inr (.inr (rF ra n))))))], [(pq 0, .inr (2, [.int (c 16), .int (c 1), .int (c 0), .int wn, .ref (pq 1), .ref (pq 2), .ref (pq 3), .ref (pq 4)]))], [(pq 1, .inr (16, [.int md1_103, .ref zd_103, .int (nI n)]))], [(pq 2, .inl (D.1 100, 7, .inl (fun i_ => c (9 + i_))))], [(pq 3, .inl (D.1 100, 7, .inl (fun i_ => c (2 + i_))))], [(pq 4, .inl (D.1 100, 7, .inl (fun _ => 0)))], [(zd_103, .inl (D.1 104, 10, .inr (.inr (.inr (.inr (rF ra n))))))], T, pstP D (setS pf kn none) 24] rfl (zpl 16 rfl (by decide +kernel)) ?_
      refine z_norm [cOb o ad (sa 0) (sb 0) tr x, [(ad 2, .inl (D.1 106, 24, .inr (.inr (.inr (.inr (va_up (pRef pf) kn (some (pq 0))))))))], [(sa 0, .inr (2, [.int (c 16), .int (c 1), .int (c 0), .int wn, .ref (sa 1), .ref (sa 2), .ref (sa 3), .ref (sa 4)]))], [(sa 1, .inr (16, [.int md, .ref d, .int (nI n)]))], [(sa 2, .inl (D.1 100, 7, .inl (fun i_ => c (9 + i_))))], [(sa 3, .inl (D.1 100, 7, .inl (fun i_ => c (2 + i_))))], [(sa 4, .inl (D.1 100, 7, .inl od))], [(d, .inl (D.1 104, 10, .inr (.inr (.inr (.inr (rF ra n))))))], [(pq 0, .inr (2, [.int (c 16), .int (c 1), .int (c 0), .int wn, .ref (pq 1), .ref (pq 2), .ref (pq 3), .ref (pq 4)]))], [(pq 1, .inr (16, [.int md1_103, .ref zd_103, .int (nI n)]))], [(pq 2, .inl (D.1 100, 7, .inl (fun i_ => c (9 + i_))))], [(pq 3, .inl (D.1 100, 7, .inl (fun i_ => c (2 + i_))))], [(pq 4, .inl (D.1 100, 7, .inl (fun _ => 0)))], [(zd_103, .inl (D.1 104, 10, .inr (.inr (.inr (.inr (rF ra n))))))], T, pstP D (setS pf kn none) 24] 6 42 ?_ rfl rfl rfl
      refine z_eq (lv₂ := [(0, .ref o)]) (st₂ := [.ref (pq 0)]) ?_ rfl rfl
      refine z_weq [cOb o ad (sa 0) (sb 0) tr x, [(ad 2, .inl (D.1 106, 24, .inr (.inr (.inr (.inr (pRef (setS pf kn (some (pq, ((some zd_103, n, ra), (md1_103, wn, fun _ => 0), c))))))))))], [(sa 0, .inr (2, [.int (c 16), .int (c 1), .int (c 0), .int wn, .ref (sa 1), .ref (sa 2), .ref (sa 3), .ref (sa 4)]))], [(sa 1, .inr (16, [.int md, .ref d, .int (nI n)]))], [(sa 2, .inl (D.1 100, 7, .inl (fun i_ => c (9 + i_))))], [(sa 3, .inl (D.1 100, 7, .inl (fun i_ => c (2 + i_))))], [(sa 4, .inl (D.1 100, 7, .inl od))], [(d, .inl (D.1 104, 10, .inr (.inr (.inr (.inr (rF ra n))))))], [(pq 0, .inr (2, [.int (c 16), .int (c 1), .int (c 0), .int wn, .ref (pq 1), .ref (pq 2), .ref (pq 3), .ref (pq 4)]))], [(pq 1, .inr (16, [.int md1_103, .ref zd_103, .int (nI n)]))], [(pq 2, .inl (D.1 100, 7, .inl (fun i_ => c (9 + i_))))], [(pq 3, .inl (D.1 100, 7, .inl (fun i_ => c (2 + i_))))], [(pq 4, .inl (D.1 100, 7, .inl (fun _ => 0)))], [(zd_103, .inl (D.1 104, 10, .inr (.inr (.inr (.inr (rF ra n))))))], T, pstP D (setS pf kn none) 24] (by rw [← pRef_set]) ?_
      refine z_ws [cOb o ad (sa 0) (sb 0) tr x, [(ad 2, .inl (D.1 106, 24, .inr (.inr (.inr (.inr (pRef (setS pf kn (some (pq, ((some zd_103, n, ra), (md1_103, wn, fun _ => 0), c))))))))))], [(sa 0, .inr (2, [.int (c 16), .int (c 1), .int (c 0), .int wn, .ref (sa 1), .ref (sa 2), .ref (sa 3), .ref (sa 4)]))], [(sa 1, .inr (16, [.int md, .ref d, .int (nI n)]))], [(sa 2, .inl (D.1 100, 7, .inl (fun i_ => c (9 + i_))))], [(sa 3, .inl (D.1 100, 7, .inl (fun i_ => c (2 + i_))))], [(sa 4, .inl (D.1 100, 7, .inl od))], [(d, .inl (D.1 104, 10, .inr (.inr (.inr (.inr (rF ra n))))))], thP D pq ((some zd_103, n, ra), (md1_103, wn, fun _ => 0), c), T, pstP D (setS pf kn none) 24] (List.Perm.refl _) ?_
      refine z_re [0, 1, 2, 3, 4, 5, 6, 7, 8, 10, 9] [cOb o ad (sa 0) (sb 0) tr x, [(ad 2, .inl (D.1 106, 24, .inr (.inr (.inr (.inr (pRef (setS pf kn (some (pq, ((some zd_103, n, ra), (md1_103, wn, fun _ => 0), c))))))))))], [(sa 0, .inr (2, [.int (c 16), .int (c 1), .int (c 0), .int wn, .ref (sa 1), .ref (sa 2), .ref (sa 3), .ref (sa 4)]))], [(sa 1, .inr (16, [.int md, .ref d, .int (nI n)]))], [(sa 2, .inl (D.1 100, 7, .inl (fun i_ => c (9 + i_))))], [(sa 3, .inl (D.1 100, 7, .inl (fun i_ => c (2 + i_))))], [(sa 4, .inl (D.1 100, 7, .inl od))], [(d, .inl (D.1 104, 10, .inr (.inr (.inr (.inr (rF ra n))))))], thP D pq ((some zd_103, n, ra), (md1_103, wn, fun _ => 0), c), pstP D (setS pf kn none) 24, T] rfl (zpl 11 rfl (by decide +kernel)) ?_
      refine z_ws [cOb o ad (sa 0) (sb 0) tr x, [(ad 2, .inl (D.1 106, 24, .inr (.inr (.inr (.inr (pRef (setS pf kn (some (pq, ((some zd_103, n, ra), (md1_103, wn, fun _ => 0), c))))))))))], [(sa 0, .inr (2, [.int (c 16), .int (c 1), .int (c 0), .int wn, .ref (sa 1), .ref (sa 2), .ref (sa 3), .ref (sa 4)]))], [(sa 1, .inr (16, [.int md, .ref d, .int (nI n)]))], [(sa 2, .inl (D.1 100, 7, .inl (fun i_ => c (9 + i_))))], [(sa 3, .inl (D.1 100, 7, .inl (fun i_ => c (2 + i_))))], [(sa 4, .inl (D.1 100, 7, .inl od))], [(d, .inl (D.1 104, 10, .inr (.inr (.inr (.inr (rF ra n))))))], pstP D (setS pf kn (some (pq, ((some zd_103, n, ra), (md1_103, wn, fun _ => 0), c)))) 24, T] (gs_perm (pstP D (setS pf kn (some (pq, ((some zd_103, n, ra), (md1_103, wn, fun _ => 0), c)))) 24) 8 2 rfl (pst_c (by omega))) ?_
      refine z_pop (pc := 106) gX dX0_keep_106 rfl ?_
      refine z_aload_n (pc := 107) gX 0 dX0_keep_107 rfl rfl ?_
      refine z_dup (pc := 108) gX dX0_keep_108 rfl ?_
      refine z_get (pc := 109) gX (zI_ok gX hAX) (zm 0 rfl) (ci := 0) (C := RX0) (T := TX0) (N := 14) rfl in_X0 7 (by decide) q216 (fun _ h => h) (v := .int (x 2)) rfl dX0_keep_109 ?_
      refine z_top (nI kn) hkn ?_
      refine z_iconst (pc := 112) gX 1 dX0_keep_112 (by decide) ?_
      refine z_iadd (pc := 113) gX dX0_keep_113 ?_
      refine z_top (nI (kn + 1)) (nI_add kn 1) ?_
      refine z_put (pc := 114) gX hAX 0 rfl (ci := 0) (C := RX0) (T := TX0) (N := 14) rfl in_X0 tyX0 tyX0_ok nmX0 7 (by decide) q216 (fun _ h => h) rfl (v := .int (nI (kn + 1))) rfl rfl (Nat.le_of_ble_eq_true rfl) [cOb o ad (sa 0) (sb 0) tr (upd x 2 (nI (kn + 1))), [(ad 2, .inl (D.1 106, 24, .inr (.inr (.inr (.inr (pRef (setS pf kn (some (pq, ((some zd_103, n, ra), (md1_103, wn, fun _ => 0), c))))))))))], [(sa 0, .inr (2, [.int (c 16), .int (c 1), .int (c 0), .int wn, .ref (sa 1), .ref (sa 2), .ref (sa 3), .ref (sa 4)]))], [(sa 1, .inr (16, [.int md, .ref d, .int (nI n)]))], [(sa 2, .inl (D.1 100, 7, .inl (fun i_ => c (9 + i_))))], [(sa 3, .inl (D.1 100, 7, .inl (fun i_ => c (2 + i_))))], [(sa 4, .inl (D.1 100, 7, .inl od))], [(d, .inl (D.1 104, 10, .inr (.inr (.inr (.inr (rF ra n))))))], pstP D (setS pf kn (some (pq, ((some zd_103, n, ra), (md1_103, wn, fun _ => 0), c)))) 24, T] rfl dX0_keep_114 ?_
      exact z_vret gX hQX (pq, ((some zd_103, n, ra), (md1_103, wn, fun _ => 0), c)) (⟨_, _, _, rfl⟩) rfl (by simp only [keepF, knK, if_neg k6]) (by first | decide | omega) (by first | decide | omega) dX0_keep_117
    · skip
      obtain ⟨⟨zd, hzd⟩, hz7⟩ := hpf kn _ hq
      have hzd : za = some zd := hzd
      have hz7 : zn ≤ 7 := hz7
      subst hzd
      refine z_ws [cOb o ad (sa 0) (sb 0) tr x, [(ad 2, .inl (D.1 106, 24, .inr (.inr (.inr (.inr (pRef pf))))))], [(sa 0, .inr (2, [.int (c 16), .int (c 1), .int (c 0), .int wn, .ref (sa 1), .ref (sa 2), .ref (sa 3), .ref (sa 4)]))], [(sa 1, .inr (16, [.int md, .ref d, .int (nI n)]))], [(sa 2, .inl (D.1 100, 7, .inl (fun i_ => c (9 + i_))))], [(sa 3, .inl (D.1 100, 7, .inl (fun i_ => c (2 + i_))))], [(sa 4, .inl (D.1 100, 7, .inl od))], [(d, .inl (D.1 104, 10, .inr (.inr (.inr (.inr (rF ra n))))))], thP D pq ((some zd, zn, zra), (zmd, zwn, zod), zc), pstP D (setS pf kn none) 24, T] (sg_perm [thP D pq ((some zd, zn, zra), (zmd, zwn, zod), zc), pstP D (setS pf kn none) 24] 8 rfl rfl (pst_o2 (by omega) hq)) ?_
      refine z_ws [cOb o ad (sa 0) (sb 0) tr x, [(ad 2, .inl (D.1 106, 24, .inr (.inr (.inr (.inr (pRef pf))))))], [(sa 0, .inr (2, [.int (c 16), .int (c 1), .int (c 0), .int wn, .ref (sa 1), .ref (sa 2), .ref (sa 3), .ref (sa 4)]))], [(sa 1, .inr (16, [.int md, .ref d, .int (nI n)]))], [(sa 2, .inl (D.1 100, 7, .inl (fun i_ => c (9 + i_))))], [(sa 3, .inl (D.1 100, 7, .inl (fun i_ => c (2 + i_))))], [(sa 4, .inl (D.1 100, 7, .inl od))], [(d, .inl (D.1 104, 10, .inr (.inr (.inr (.inr (rF ra n))))))], [(pq 0, .inr (2, [.int (zc 16), .int (zc 1), .int (zc 0), .int zwn, .ref (pq 1), .ref (pq 2), .ref (pq 3), .ref (pq 4)]))], [(pq 1, .inr (16, [.int zmd, .ref zd, .int (nI zn)]))], [(pq 2, .inl (D.1 100, 7, .inl (fun i_ => zc (9 + i_))))], [(pq 3, .inl (D.1 100, 7, .inl (fun i_ => zc (2 + i_))))], [(pq 4, .inl (D.1 100, 7, .inl zod))], [(zd, .inl (D.1 104, 10, .inr (.inr (.inr (.inr (rF zra zn))))))], pstP D (setS pf kn none) 24, T] (List.Perm.refl _) ?_
      refine z_ald (pc := 70) gX (zI_ok gX hAX) (j := kn) (n := 24) (f := (pRef pf)) (zm 1 rfl) 6 rfl (by omega) (by decide) (pq 0) (pRef_i hq) dX0_keep_70 ?_
      refine z_ifnonnull (pc := 71) gX 90 dX0_keep_71 (by decide) ?_
      refine z_aload_n (pc := 90) gX 0 dX0_keep_90 rfl rfl ?_
      refine z_get (pc := 91) gX (zI_ok gX hAX) (zm 0 rfl) (ci := 0) (C := RX0) (T := TX0) (N := 14) rfl in_X0 6 (by decide) q215 (fun _ h => h) (v := .ref (ad 2)) rfl dX0_keep_91 ?_
      refine z_aload_n (pc := 94) gX 0 dX0_keep_94 rfl rfl ?_
      refine z_get (pc := 95) gX (zI_ok gX hAX) (zm 0 rfl) (ci := 0) (C := RX0) (T := TX0) (N := 14) rfl in_X0 7 (by decide) q216 (fun _ h => h) (v := .int (x 2)) rfl dX0_keep_95 ?_
      refine z_top (nI kn) hkn ?_
      refine z_ald (pc := 98) gX (zI_ok gX hAX) (j := kn) (n := 24) (f := (pRef pf)) (zm 1 rfl) 6 rfl (by omega) (by decide) (pq 0) (pRef_i hq) dX0_keep_98 ?_
      refine z_aload_n (pc := 99) gX 0 dX0_keep_99 rfl rfl ?_
      refine z_get (pc := 100) gX (zI_ok gX hAX) (zm 0 rfl) (ci := 0) (C := RX0) (T := TX0) (N := 14) rfl in_X0 4 (by decide) q213 (fun _ h => h) (v := .ref (sa 0)) rfl dX0_keep_100 ?_
      refine z_cMV (pc := 103) gX hAX [.ref (sa 0)] [] [8, 9, 10, 11, 12, 13, 2, 3, 4, 5, 6, 7, 15] [0, 1, 14] (fun A1 => met_X2_becomeG l D B0 A1 sa (c 16) (c 1) (c 0) wn md d n (fun i_ => c (9 + i_)) (fun i_ => c (2 + i_)) od ra (fun r => c (18 + r)) T pq (zc 16) (zc 1) (zc 0) zwn zmd (fun i_ => zc (9 + i_)) (fun i_ => zc (2 + i_)) zod zd zn zra hG.2.1 hG.2.2.2.2.2.2.2 hz7) q784 q785 q786 q49 q787 (zm 8 rfl) (ci := 2) rfl rfl hd_X2_become ⟨rfl, rfl⟩ ⟨(Nat.le_of_ble_eq_true rfl), (Nat.le_of_ble_eq_true rfl)⟩ rfl rfl (zpl 16 rfl (by decide +kernel)) rfl rfl (Nat.le_of_ble_eq_true rfl) ⟨(Nat.le_of_ble_eq_true rfl), (Nat.le_of_ble_eq_true rfl)⟩ dX0_keep_103 ?_
      intro u103 hu103
      obtain ⟨md1_103, rfl⟩ : ∃ z, z = u103 := ⟨_, rfl⟩
      refine z_re [13, 14, 6, 7, 8, 9, 10, 11, 0, 1, 2, 3, 4, 5, 15, 12] [cOb o ad (sa 0) (sb 0) tr x, [(ad 2, .inl (D.1 106, 24, .inr (.inr (.inr (.inr (pRef pf))))))], [(sa 0, .inr (2, [.int (c 16), .int (c 1), .int (c 0), .int wn, .ref (sa 1), .ref (sa 2), .ref (sa 3), .ref (sa 4)]))], [(sa 1, .inr (16, [.int md, .ref d, .int (nI n)]))], [(sa 2, .inl (D.1 100, 7, .inl (fun i_ => c (9 + i_))))], [(sa 3, .inl (D.1 100, 7, .inl (fun i_ => c (2 + i_))))], [(sa 4, .inl (D.1 100, 7, .inl od))], [(d, .inl (D.1 104, 10, .inr (.inr (.inr (.inr (rF ra n))))))], [(pq 0, .inr (2, [.int (c 16), .int (c 1), .int (c 0), .int wn, .ref (pq 1), .ref (pq 2), .ref (pq 3), .ref (pq 4)]))], [(pq 1, .inr (16, [.int md1_103, .ref zd, .int (nI n)]))], [(pq 2, .inl (D.1 100, 7, .inl (fun i_ => c (9 + i_))))], [(pq 3, .inl (D.1 100, 7, .inl (fun i_ => c (2 + i_))))], [(pq 4, .inl (D.1 100, 7, .inl zod))], [(zd, .inl (D.1 104, 10, .inr (.inr (.inr (.inr (rF ra n))))))], pstP D (setS pf kn none) 24, T] rfl (zpl 16 rfl (by decide +kernel)) ?_
      refine z_eq (lv₂ := [(0, .ref o)]) (st₂ := [.ref (pq 0)]) ?_ rfl rfl
      refine z_weq [cOb o ad (sa 0) (sb 0) tr x, [(ad 2, .inl (D.1 106, 24, .inr (.inr (.inr (.inr (pRef (setS pf kn (some (pq, ((some zd, n, ra), (md1_103, wn, zod), c))))))))))], [(sa 0, .inr (2, [.int (c 16), .int (c 1), .int (c 0), .int wn, .ref (sa 1), .ref (sa 2), .ref (sa 3), .ref (sa 4)]))], [(sa 1, .inr (16, [.int md, .ref d, .int (nI n)]))], [(sa 2, .inl (D.1 100, 7, .inl (fun i_ => c (9 + i_))))], [(sa 3, .inl (D.1 100, 7, .inl (fun i_ => c (2 + i_))))], [(sa 4, .inl (D.1 100, 7, .inl od))], [(d, .inl (D.1 104, 10, .inr (.inr (.inr (.inr (rF ra n))))))], [(pq 0, .inr (2, [.int (c 16), .int (c 1), .int (c 0), .int wn, .ref (pq 1), .ref (pq 2), .ref (pq 3), .ref (pq 4)]))], [(pq 1, .inr (16, [.int md1_103, .ref zd, .int (nI n)]))], [(pq 2, .inl (D.1 100, 7, .inl (fun i_ => c (9 + i_))))], [(pq 3, .inl (D.1 100, 7, .inl (fun i_ => c (2 + i_))))], [(pq 4, .inl (D.1 100, 7, .inl zod))], [(zd, .inl (D.1 104, 10, .inr (.inr (.inr (.inr (rF ra n))))))], pstP D (setS pf kn none) 24, T] (by rw [← pRef_same (s := (pq, ((some zd, n, ra), (md1_103, wn, zod), c))) (show pRef pf kn = some (pq 0) from pRef_i hq)]) ?_
      refine z_ws [cOb o ad (sa 0) (sb 0) tr x, [(ad 2, .inl (D.1 106, 24, .inr (.inr (.inr (.inr (pRef (setS pf kn (some (pq, ((some zd, n, ra), (md1_103, wn, zod), c))))))))))], [(sa 0, .inr (2, [.int (c 16), .int (c 1), .int (c 0), .int wn, .ref (sa 1), .ref (sa 2), .ref (sa 3), .ref (sa 4)]))], [(sa 1, .inr (16, [.int md, .ref d, .int (nI n)]))], [(sa 2, .inl (D.1 100, 7, .inl (fun i_ => c (9 + i_))))], [(sa 3, .inl (D.1 100, 7, .inl (fun i_ => c (2 + i_))))], [(sa 4, .inl (D.1 100, 7, .inl od))], [(d, .inl (D.1 104, 10, .inr (.inr (.inr (.inr (rF ra n))))))], thP D pq ((some zd, n, ra), (md1_103, wn, zod), c), pstP D (setS pf kn none) 24, T] (List.Perm.refl _) ?_
      refine z_ws [cOb o ad (sa 0) (sb 0) tr x, [(ad 2, .inl (D.1 106, 24, .inr (.inr (.inr (.inr (pRef (setS pf kn (some (pq, ((some zd, n, ra), (md1_103, wn, zod), c))))))))))], [(sa 0, .inr (2, [.int (c 16), .int (c 1), .int (c 0), .int wn, .ref (sa 1), .ref (sa 2), .ref (sa 3), .ref (sa 4)]))], [(sa 1, .inr (16, [.int md, .ref d, .int (nI n)]))], [(sa 2, .inl (D.1 100, 7, .inl (fun i_ => c (9 + i_))))], [(sa 3, .inl (D.1 100, 7, .inl (fun i_ => c (2 + i_))))], [(sa 4, .inl (D.1 100, 7, .inl od))], [(d, .inl (D.1 104, 10, .inr (.inr (.inr (.inr (rF ra n))))))], pstP D (setS pf kn (some (pq, ((some zd, n, ra), (md1_103, wn, zod), c)))) 24, T] (gs_perm (pstP D (setS pf kn (some (pq, ((some zd, n, ra), (md1_103, wn, zod), c)))) 24) 8 2 rfl (pst_c (by omega))) ?_
      refine z_pop (pc := 106) gX dX0_keep_106 rfl ?_
      refine z_aload_n (pc := 107) gX 0 dX0_keep_107 rfl rfl ?_
      refine z_dup (pc := 108) gX dX0_keep_108 rfl ?_
      refine z_get (pc := 109) gX (zI_ok gX hAX) (zm 0 rfl) (ci := 0) (C := RX0) (T := TX0) (N := 14) rfl in_X0 7 (by decide) q216 (fun _ h => h) (v := .int (x 2)) rfl dX0_keep_109 ?_
      refine z_top (nI kn) hkn ?_
      refine z_iconst (pc := 112) gX 1 dX0_keep_112 (by decide) ?_
      refine z_iadd (pc := 113) gX dX0_keep_113 ?_
      refine z_top (nI (kn + 1)) (nI_add kn 1) ?_
      refine z_put (pc := 114) gX hAX 0 rfl (ci := 0) (C := RX0) (T := TX0) (N := 14) rfl in_X0 tyX0 tyX0_ok nmX0 7 (by decide) q216 (fun _ h => h) rfl (v := .int (nI (kn + 1))) rfl rfl (Nat.le_of_ble_eq_true rfl) [cOb o ad (sa 0) (sb 0) tr (upd x 2 (nI (kn + 1))), [(ad 2, .inl (D.1 106, 24, .inr (.inr (.inr (.inr (pRef (setS pf kn (some (pq, ((some zd, n, ra), (md1_103, wn, zod), c))))))))))], [(sa 0, .inr (2, [.int (c 16), .int (c 1), .int (c 0), .int wn, .ref (sa 1), .ref (sa 2), .ref (sa 3), .ref (sa 4)]))], [(sa 1, .inr (16, [.int md, .ref d, .int (nI n)]))], [(sa 2, .inl (D.1 100, 7, .inl (fun i_ => c (9 + i_))))], [(sa 3, .inl (D.1 100, 7, .inl (fun i_ => c (2 + i_))))], [(sa 4, .inl (D.1 100, 7, .inl od))], [(d, .inl (D.1 104, 10, .inr (.inr (.inr (.inr (rF ra n))))))], pstP D (setS pf kn (some (pq, ((some zd, n, ra), (md1_103, wn, zod), c)))) 24, T] rfl dX0_keep_114 ?_
      exact z_vret gX hQX (pq, ((some zd, n, ra), (md1_103, wn, zod), c)) (⟨_, _, _, rfl⟩) rfl (by simp only [keepF, knK, if_neg k6]) (by first | decide | omega) (by first | decide | omega) dX0_keep_117
  · skip
    have k6 : kn = 24 := (zn_eq (a := kn) (b := 24) (by omega) (by omega)).mp c6
    refine z_aload_n (pc := 9) gX 0 dX0_keep_9 rfl rfl ?_
    refine z_get (pc := 10) gX (zI_ok gX hAX) (zm 0 rfl) (ci := 0) (C := RX0) (T := TX0) (N := 14) rfl in_X0 6 (by decide) q215 (fun _ h => h) (v := .ref (ad 2)) rfl dX0_keep_10 ?_
    refine z_iconst (pc := 13) gX 0 dX0_keep_13 (by decide) ?_
    obtain ⟨s0, hs0⟩ := hfill 0 (by omega)
    refine z_top (nI 0) rfl ?_
    refine z_ald (pc := 14) gX (zI_ok gX hAX) (j := 0) (n := 24) (f := (pRef pf)) (zm 1 rfl) 6 rfl (by omega) (by decide) (s0.1 0) (pRef_i hs0) dX0_keep_14 ?_
    refine z_astore_n (pc := 15) gX [1, 0] [(0, .ref o), (1, .ref (s0.1 0))] dX0_keep_15 rfl (by decide) rfl ?_
    refine z_iconst (pc := 16) gX 1 dX0_keep_16 (by decide) ?_
    refine z_istore_n (pc := 17) gX [1, 2, 0] [(0, .ref o), (1, .ref (s0.1 0)), (2, .int 1)] dX0_keep_17 rfl (by decide) rfl ?_
    have L18 : ∀ (n18 : Nat) (i : Nat) (f2 : Nat → Option Nat), (1 ≤ i) → (i ≤ 24) → (f2 = shR pf i) → 24 - i < n18 → zJ pX l eX (zRm 7 6 42) sX mX argsX blX mtX cX QX 3 (zI D A sX [cOb o ad (sa 0) (sb 0) tr x, [(ad 2, .inl (D.1 106, 24, .inr (.inr (.inr (.inr f2)))))], [(sa 0, .inr (2, [.int (c 16), .int (c 1), .int (c 0), .int wn, .ref (sa 1), .ref (sa 2), .ref (sa 3), .ref (sa 4)]))], [(sa 1, .inr (16, [.int md, .ref d, .int (nI n)]))], [(sa 2, .inl (D.1 100, 7, .inl (fun i_ => c (9 + i_))))], [(sa 3, .inl (D.1 100, 7, .inl (fun i_ => c (2 + i_))))], [(sa 4, .inl (D.1 100, 7, .inl od))], [(d, .inl (D.1 104, 10, .inr (.inr (.inr (.inr (rF ra n))))))], pstP D pf 24, T]) 0 0 18 [(0, .ref o), (1, .ref (s0.1 0)), (2, .int (nI i))] [] := by
      intro n18
      induction n18 with
      | zero => exact fun i f2 hi1 hi hf2 hm18 => absurd hm18 (Nat.not_lt_zero _)
      | succ n18 ih18 =>
        intro i f2 hi1 hi hf2 hm18
        refine z_iload_n (pc := 18) gX 2 dX0_keep_18 rfl rfl ?_
        refine z_bipush (pc := 19) gX 24 dX0_keep_19 (by decide) ?_
        refine z_icmp_ge (pc := 21) gX 44 dX0_keep_21 (by decide) (fun c21 => ?_) (fun c21 => ?_)
        · skip
          have k21 : 24 ≤ i := (zn_le (a := 24) (b := i) (by omega) (by omega)).mp c21
          refine z_aload_n (pc := 44) gX 0 dX0_keep_44 rfl rfl ?_
          refine z_get (pc := 45) gX (zI_ok gX hAX) (zm 0 rfl) (ci := 0) (C := RX0) (T := TX0) (N := 14) rfl in_X0 6 (by decide) q215 (fun _ h => h) (v := .ref (ad 2)) rfl dX0_keep_45 ?_
          refine z_bipush (pc := 48) gX 23 dX0_keep_48 (by decide) ?_
          refine z_aload_n (pc := 50) gX 1 dX0_keep_50 rfl rfl ?_
          refine z_ixtop (nI 23) rfl ?_
          refine z_ast (pc := 51) gX hAX 1 (j := 23) (n := 24) (f := f2) rfl 6 rfl (by omega) (by decide) (zpm 8 rfl (pst_mem hs0 24 (by omega))) (show vwCl[2]? = _ from rfl) (fun comp c0 h1 h2 => vb_asgS comp c0 h1 h2) [cOb o ad (sa 0) (sb 0) tr x, [(ad 2, .inl (D.1 106, 24, .inr (.inr (.inr (.inr (va_up f2 23 (some (s0.1 0))))))))], [(sa 0, .inr (2, [.int (c 16), .int (c 1), .int (c 0), .int wn, .ref (sa 1), .ref (sa 2), .ref (sa 3), .ref (sa 4)]))], [(sa 1, .inr (16, [.int md, .ref d, .int (nI n)]))], [(sa 2, .inl (D.1 100, 7, .inl (fun i_ => c (9 + i_))))], [(sa 3, .inl (D.1 100, 7, .inl (fun i_ => c (2 + i_))))], [(sa 4, .inl (D.1 100, 7, .inl od))], [(d, .inl (D.1 104, 10, .inr (.inr (.inr (.inr (rF ra n))))))], pstP D pf 24, T] rfl dX0_keep_51 ?_
          refine z_weq [cOb o ad (sa 0) (sb 0) tr x, [(ad 2, .inl (D.1 106, 24, .inr (.inr (.inr (.inr (pRef (rotF pf)))))))], [(sa 0, .inr (2, [.int (c 16), .int (c 1), .int (c 0), .int wn, .ref (sa 1), .ref (sa 2), .ref (sa 3), .ref (sa 4)]))], [(sa 1, .inr (16, [.int md, .ref d, .int (nI n)]))], [(sa 2, .inl (D.1 100, 7, .inl (fun i_ => c (9 + i_))))], [(sa 3, .inl (D.1 100, 7, .inl (fun i_ => c (2 + i_))))], [(sa 4, .inl (D.1 100, 7, .inl od))], [(d, .inl (D.1 104, 10, .inr (.inr (.inr (.inr (rF ra n))))))], pstP D pf 24, T] (by rw [hf2, show i = 24 by omega, shR_e (pRef_i hs0)]) ?_
          refine z_ws [cOb o ad (sa 0) (sb 0) tr x, [(ad 2, .inl (D.1 106, 24, .inr (.inr (.inr (.inr (pRef (rotF pf)))))))], [(sa 0, .inr (2, [.int (c 16), .int (c 1), .int (c 0), .int wn, .ref (sa 1), .ref (sa 2), .ref (sa 3), .ref (sa 4)]))], [(sa 1, .inr (16, [.int md, .ref d, .int (nI n)]))], [(sa 2, .inl (D.1 100, 7, .inl (fun i_ => c (9 + i_))))], [(sa 3, .inl (D.1 100, 7, .inl (fun i_ => c (2 + i_))))], [(sa 4, .inl (D.1 100, 7, .inl od))], [(d, .inl (D.1 104, 10, .inr (.inr (.inr (.inr (rF ra n))))))], pstP D (rotF pf) 24, T] (sg_perm [pstP D (rotF pf) 24] 8 rfl rfl (by rw [List.flatten_cons, List.flatten_nil, List.append_nil]; exact pst_rot)) ?_
          refine z_aload_n (pc := 52) gX 0 dX0_keep_52 rfl rfl ?_
          refine z_dup (pc := 53) gX dX0_keep_53 rfl ?_
          refine z_get (pc := 54) gX (zI_ok gX hAX) (zm 0 rfl) (ci := 0) (C := RX0) (T := TX0) (N := 14) rfl in_X0 7 (by decide) q216 (fun _ h => h) (v := .int (x 2)) rfl dX0_keep_54 ?_
          refine z_top (nI kn) hkn ?_
          refine z_iconst (pc := 57) gX 1 dX0_keep_57 (by decide) ?_
          refine z_isub (pc := 58) gX dX0_keep_58 ?_
          refine z_top (nI 23) (by rw [k6]; rfl) ?_
          refine z_put (pc := 59) gX hAX 0 rfl (ci := 0) (C := RX0) (T := TX0) (N := 14) rfl in_X0 tyX0 tyX0_ok nmX0 7 (by decide) q216 (fun _ h => h) rfl (v := .int (nI 23)) rfl rfl (Nat.le_of_ble_eq_true rfl) [cOb o ad (sa 0) (sb 0) tr (upd x 2 (nI 23)), [(ad 2, .inl (D.1 106, 24, .inr (.inr (.inr (.inr (pRef (rotF pf)))))))], [(sa 0, .inr (2, [.int (c 16), .int (c 1), .int (c 0), .int wn, .ref (sa 1), .ref (sa 2), .ref (sa 3), .ref (sa 4)]))], [(sa 1, .inr (16, [.int md, .ref d, .int (nI n)]))], [(sa 2, .inl (D.1 100, 7, .inl (fun i_ => c (9 + i_))))], [(sa 3, .inl (D.1 100, 7, .inl (fun i_ => c (2 + i_))))], [(sa 4, .inl (D.1 100, 7, .inl od))], [(d, .inl (D.1 104, 10, .inr (.inr (.inr (.inr (rF ra n))))))], pstP D (rotF pf) 24, T] rfl dX0_keep_59 ?_
          refine z_aload_n (pc := 62) gX 0 dX0_keep_62 rfl rfl ?_
          refine z_get (pc := 63) gX (zI_ok gX hAX) (zm 0 rfl) (ci := 0) (C := RX0) (T := TX0) (N := 14) rfl in_X0 6 (by decide) q215 (fun _ h => h) (v := .ref (ad 2)) rfl dX0_keep_63 ?_
          refine z_aload_n (pc := 66) gX 0 dX0_keep_66 rfl rfl ?_
          refine z_get (pc := 67) gX (zI_ok gX hAX) (zm 0 rfl) (ci := 0) (C := RX0) (T := TX0) (N := 14) rfl in_X0 7 (by decide) q216 (fun _ h => h) (v := .int (nI 23)) rfl dX0_keep_67 ?_
          rcases hq : (rotF pf) 23 with _ | ⟨pq, ⟨za, zn, zra⟩, ⟨zmd, zwn, zod⟩, zc⟩
          · skip
            refine z_ws [cOb o ad (sa 0) (sb 0) tr (upd x 2 (nI 23)), [(ad 2, .inl (D.1 106, 24, .inr (.inr (.inr (.inr (pRef (rotF pf)))))))], [(sa 0, .inr (2, [.int (c 16), .int (c 1), .int (c 0), .int wn, .ref (sa 1), .ref (sa 2), .ref (sa 3), .ref (sa 4)]))], [(sa 1, .inr (16, [.int md, .ref d, .int (nI n)]))], [(sa 2, .inl (D.1 100, 7, .inl (fun i_ => c (9 + i_))))], [(sa 3, .inl (D.1 100, 7, .inl (fun i_ => c (2 + i_))))], [(sa 4, .inl (D.1 100, 7, .inl od))], [(d, .inl (D.1 104, 10, .inr (.inr (.inr (.inr (rF ra n))))))], pstP D (setS (rotF pf) 23 none) 24, T] (sg_perm [pstP D (setS (rotF pf) 23 none) 24] 8 rfl rfl (pst_o1 (by omega) hq)) ?_
            refine z_aldN (pc := 70) gX (zI_ok gX hAX) (j := 23) (n := 24) (f := (pRef (rotF pf))) (zm 1 rfl) 6 rfl (by omega) (by decide) (pRef_n hq) dX0_keep_70 ?_
            refine z_ifnonnullN (pc := 71) gX dX0_keep_71 ?_
            refine z_aload_n (pc := 74) gX 0 dX0_keep_74 rfl rfl ?_
            refine z_get (pc := 75) gX (zI_ok gX hAX) (zm 0 rfl) (ci := 0) (C := RX0) (T := TX0) (N := 14) rfl in_X0 6 (by decide) q215 (fun _ h => h) (v := .ref (ad 2)) rfl dX0_keep_75 ?_
            refine z_aload_n (pc := 78) gX 0 dX0_keep_78 rfl rfl ?_
            refine z_get (pc := 79) gX (zI_ok gX hAX) (zm 0 rfl) (ci := 0) (C := RX0) (T := TX0) (N := 14) rfl in_X0 7 (by decide) q216 (fun _ h => h) (v := .int (nI 23)) rfl dX0_keep_79 ?_
            refine z_new (pc := 82) gX hAX (ci := 2) (C := RX2) (T := TX2) (N := 8) rfl in_X2 tyX2 tyX2_ok q111 q112 q49 [.int 0, .int 0, .int 0, .int 0, .null, .null, .null, .null] (by decide +kernel) (by decide) (by decide) dX0_keep_82 (fun q82 => ?_)
            refine z_norm [cOb o ad (sa 0) (sb 0) tr (upd x 2 (nI 23)), [(ad 2, .inl (D.1 106, 24, .inr (.inr (.inr (.inr (pRef (rotF pf)))))))], [(sa 0, .inr (2, [.int (c 16), .int (c 1), .int (c 0), .int wn, .ref (sa 1), .ref (sa 2), .ref (sa 3), .ref (sa 4)]))], [(sa 1, .inr (16, [.int md, .ref d, .int (nI n)]))], [(sa 2, .inl (D.1 100, 7, .inl (fun i_ => c (9 + i_))))], [(sa 3, .inl (D.1 100, 7, .inl (fun i_ => c (2 + i_))))], [(sa 4, .inl (D.1 100, 7, .inl od))], [(d, .inl (D.1 104, 10, .inr (.inr (.inr (.inr (rF ra n))))))], pstP D (setS (rotF pf) 23 none) 24, T, [(q82, .inr (2, [.int 0, .int 0, .int 0, .int 0, .null, .null, .null, .null]))]] 1 8 ?_ rfl rfl rfl
            refine z_re [0, 1, 2, 3, 4, 5, 6, 7, 10, 8, 9] [cOb o ad (sa 0) (sb 0) tr (upd x 2 (nI 23)), [(ad 2, .inl (D.1 106, 24, .inr (.inr (.inr (.inr (pRef (rotF pf)))))))], [(sa 0, .inr (2, [.int (c 16), .int (c 1), .int (c 0), .int wn, .ref (sa 1), .ref (sa 2), .ref (sa 3), .ref (sa 4)]))], [(sa 1, .inr (16, [.int md, .ref d, .int (nI n)]))], [(sa 2, .inl (D.1 100, 7, .inl (fun i_ => c (9 + i_))))], [(sa 3, .inl (D.1 100, 7, .inl (fun i_ => c (2 + i_))))], [(sa 4, .inl (D.1 100, 7, .inl od))], [(d, .inl (D.1 104, 10, .inr (.inr (.inr (.inr (rF ra n))))))], [(q82, .inr (2, [.int 0, .int 0, .int 0, .int 0, .null, .null, .null, .null]))], pstP D (setS (rotF pf) 23 none) 24, T] rfl (zpl 11 rfl (by decide +kernel)) ?_
            refine z_dup (pc := 85) gX dX0_keep_85 rfl ?_
            refine z_cMIN (pc := 86) gX hAX [] [.ref q82, .int (nI 23), .ref (ad 2)] [8] [0, 1, 2, 3, 4, 5, 6, 7, 9, 10] (fun A1 => met_X2_init l D B0 A1 q82 ) (zm 2 rfl) q114 q49 rfl hd_X2_init q115 ⟨rfl, rfl⟩ ⟨(Nat.le_of_ble_eq_true rfl), (Nat.le_of_ble_eq_true rfl)⟩ rfl rfl (zpl 11 rfl (by decide +kernel)) rfl rfl (Nat.le_of_ble_eq_true rfl) ⟨(Nat.le_of_ble_eq_true rfl), (Nat.le_of_ble_eq_true rfl)⟩ dX0_keep_86 ?_
            intro u86 hu86
            obtain ⟨a1_86, a2_86, a3_86, a4_86⟩ := u86
            refine z_re [5, 6, 7, 8, 9, 10, 11, 12, 0, 1, 2, 3, 4, 13, 14] [cOb o ad (sa 0) (sb 0) tr (upd x 2 (nI 23)), [(ad 2, .inl (D.1 106, 24, .inr (.inr (.inr (.inr (pRef (rotF pf)))))))], [(sa 0, .inr (2, [.int (c 16), .int (c 1), .int (c 0), .int wn, .ref (sa 1), .ref (sa 2), .ref (sa 3), .ref (sa 4)]))], [(sa 1, .inr (16, [.int md, .ref d, .int (nI n)]))], [(sa 2, .inl (D.1 100, 7, .inl (fun i_ => c (9 + i_))))], [(sa 3, .inl (D.1 100, 7, .inl (fun i_ => c (2 + i_))))], [(sa 4, .inl (D.1 100, 7, .inl od))], [(d, .inl (D.1 104, 10, .inr (.inr (.inr (.inr (rF ra n))))))], [(q82, .inr (2, [.int 0, .int 0, .int 0, .int 0, .ref a1_86, .ref a2_86, .ref a3_86, .ref a4_86]))], [(a1_86, .inr (16, [.int 0, .ref (zEE D), .int (nI 0)]))], [(a2_86, .inl (D.1 100, 7, .inl (fun _ => 0)))], [(a3_86, .inl (D.1 100, 7, .inl (fun _ => 0)))], [(a4_86, .inl (D.1 100, 7, .inl (fun _ => 0)))], pstP D (setS (rotF pf) 23 none) 24, T] rfl (zpl 15 rfl (by decide +kernel)) ?_
            refine z_norm [cOb o ad (sa 0) (sb 0) tr (upd x 2 (nI 23)), [(ad 2, .inl (D.1 106, 24, .inr (.inr (.inr (.inr (pRef (rotF pf)))))))], [(sa 0, .inr (2, [.int (c 16), .int (c 1), .int (c 0), .int wn, .ref (sa 1), .ref (sa 2), .ref (sa 3), .ref (sa 4)]))], [(sa 1, .inr (16, [.int md, .ref d, .int (nI n)]))], [(sa 2, .inl (D.1 100, 7, .inl (fun i_ => c (9 + i_))))], [(sa 3, .inl (D.1 100, 7, .inl (fun i_ => c (2 + i_))))], [(sa 4, .inl (D.1 100, 7, .inl od))], [(d, .inl (D.1 104, 10, .inr (.inr (.inr (.inr (rF ra n))))))], [(q82, .inr (2, [.int 0, .int 0, .int 0, .int 0, .ref a1_86, .ref a2_86, .ref a3_86, .ref a4_86]))], [(a1_86, .inr (16, [.int 0, .ref (zEE D), .int (nI 0)]))], [(a2_86, .inl (D.1 100, 7, .inl (fun _ => 0)))], [(a3_86, .inl (D.1 100, 7, .inl (fun _ => 0)))], [(a4_86, .inl (D.1 100, 7, .inl (fun _ => 0)))], pstP D (setS (rotF pf) 23 none) 24, T] 5 32 ?_ rfl rfl rfl
            refine z_eq (lv₂ := [(0, .ref o), (1, .ref (s0.1 0)), (2, .int (nI i))]) (st₂ := [.ref q82, .int (nI 23), .ref (ad 2)]) ?_ rfl rfl
            obtain ⟨pq, rfl, rfl, rfl, rfl, rfl⟩ : ∃ pq : Nat → Nat, pq 0 = q82 ∧ pq 1 = a1_86 ∧ pq 2 = a2_86 ∧ pq 3 = a3_86 ∧ pq 4 = a4_86 := ⟨ad5 q82 a1_86 a2_86 a3_86 a4_86, rfl, rfl, rfl, rfl, rfl⟩
            refine z_ast (pc := 89) gX hAX 1 (j := 23) (n := 24) (f := (pRef (rotF pf))) rfl 6 rfl (by omega) (by decide) (zm 8 rfl) (show vwCl[2]? = _ from rfl) (fun comp c0 h1 h2 => vb_asgS comp c0 h1 h2) [cOb o ad (sa 0) (sb 0) tr (upd x 2 (nI 23)), [(ad 2, .inl (D.1 106, 24, .inr (.inr (.inr (.inr (va_up (pRef (rotF pf)) 23 (some (pq 0))))))))], [(sa 0, .inr (2, [.int (c 16), .int (c 1), .int (c 0), .int wn, .ref (sa 1), .ref (sa 2), .ref (sa 3), .ref (sa 4)]))], [(sa 1, .inr (16, [.int md, .ref d, .int (nI n)]))], [(sa 2, .inl (D.1 100, 7, .inl (fun i_ => c (9 + i_))))], [(sa 3, .inl (D.1 100, 7, .inl (fun i_ => c (2 + i_))))], [(sa 4, .inl (D.1 100, 7, .inl od))], [(d, .inl (D.1 104, 10, .inr (.inr (.inr (.inr (rF ra n))))))], [(pq 0, .inr (2, [.int 0, .int 0, .int 0, .int 0, .ref (pq 1), .ref (pq 2), .ref (pq 3), .ref (pq 4)]))], [(pq 1, .inr (16, [.int 0, .ref (zEE D), .int (nI 0)]))], [(pq 2, .inl (D.1 100, 7, .inl (fun _ => 0)))], [(pq 3, .inl (D.1 100, 7, .inl (fun _ => 0)))], [(pq 4, .inl (D.1 100, 7, .inl (fun _ => 0)))], pstP D (setS (rotF pf) 23 none) 24, T] rfl dX0_keep_89 ?_
            refine z_aload_n (pc := 90) gX 0 dX0_keep_90 rfl rfl ?_
            refine z_get (pc := 91) gX (zI_ok gX hAX) (zm 0 rfl) (ci := 0) (C := RX0) (T := TX0) (N := 14) rfl in_X0 6 (by decide) q215 (fun _ h => h) (v := .ref (ad 2)) rfl dX0_keep_91 ?_
            refine z_aload_n (pc := 94) gX 0 dX0_keep_94 rfl rfl ?_
            refine z_get (pc := 95) gX (zI_ok gX hAX) (zm 0 rfl) (ci := 0) (C := RX0) (T := TX0) (N := 14) rfl in_X0 7 (by decide) q216 (fun _ h => h) (v := .int (nI 23)) rfl dX0_keep_95 ?_
            refine z_ald (pc := 98) gX (zI_ok gX hAX) (j := 23) (n := 24) (f := (va_up (pRef (rotF pf)) 23 (some (pq 0)))) (zm 1 rfl) 6 rfl (by omega) (by decide) (pq 0) up_s dX0_keep_98 ?_
            refine z_aload_n (pc := 99) gX 0 dX0_keep_99 rfl rfl ?_
            refine z_get (pc := 100) gX (zI_ok gX hAX) (zm 0 rfl) (ci := 0) (C := RX0) (T := TX0) (N := 14) rfl in_X0 4 (by decide) q213 (fun _ h => h) (v := .ref (sa 0)) rfl dX0_keep_100 ?_
            refine z_cMV (pc := 103) gX hAX [.ref (sa 0)] [] [8, 9, 10, 11, 12, 2, 3, 4, 5, 6, 7, 14] [0, 1, 13] (fun A1 => met_X2_becomeF l D B0 A1 sa (c 16) (c 1) (c 0) wn md d n (fun i_ => c (9 + i_)) (fun i_ => c (2 + i_)) od ra (fun r => c (18 + r)) T pq 0 0 0 0 0 (fun _ => 0) (fun _ => 0) (fun _ => 0) hG.2.1 hG.2.2.2.2.2.2.2 hG.1) q784 q785 q786 q49 q787 (zm 8 rfl) (ci := 2) rfl rfl hd_X2_become ⟨rfl, rfl⟩ ⟨(Nat.le_of_ble_eq_true rfl), (Nat.le_of_ble_eq_true rfl)⟩ rfl rfl (zpl 15 rfl (by decide +kernel)) rfl rfl (Nat.le_of_ble_eq_true rfl) ⟨(Nat.le_of_ble_eq_true rfl), (Nat.le_of_ble_eq_true rfl)⟩ dX0_keep_103 ?_
            intro u103 hu103
            obtain ⟨md1_103, zd_103⟩ := u103
            refine z_re [13, 14, 5, 6, 7, 8, 9, 10, 0, 1, 2, 3, 4, 11, 12, 15] [cOb o ad (sa 0) (sb 0) tr (upd x 2 (nI 23)), [(ad 2, .inl (D.1 106, 24, .inr (.inr (.inr (.inr (va_up (pRef (rotF pf)) 23 (some (pq 0))))))))], [(sa 0, .inr (2, [.int (c 16), .int (c 1), .int (c 0), .int wn, .ref (sa 1), .ref (sa 2), .ref (sa 3), .ref (sa 4)]))], [(sa 1, .inr (16, [.int md, .ref d, .int (nI n)]))], [(sa 2, .inl (D.1 100, 7, .inl (fun i_ => c (9 + i_))))], [(sa 3, .inl (D.1 100, 7, .inl (fun i_ => c (2 + i_))))], [(sa 4, .inl (D.1 100, 7, .inl od))], [(d, .inl (D.1 104, 10, .inr (.inr (.inr (.inr (rF ra n))))))], [(pq 0, .inr (2, [.int (c 16), .int (c 1), .int (c 0), .int wn, .ref (pq 1), .ref (pq 2), .ref (pq 3), .ref (pq 4)]))], [(pq 1, .inr (16, [.int md1_103, .ref zd_103, .int (nI n)]))], [(pq 2, .inl (D.1 100, 7, .inl (fun i_ => c (9 + i_))))], [(pq 3, .inl (D.1 100, 7, .inl (fun i_ => c (2 + i_))))], [(pq 4, .inl (D.1 100, 7, .inl (fun _ => 0)))], [(zd_103, .inl (D.1 104, 10, .inr (.inr (.inr (.inr (rF ra n))))))], T, pstP D (setS (rotF pf) 23 none) 24] rfl (zpl 16 rfl (by decide +kernel)) ?_
            refine z_norm [cOb o ad (sa 0) (sb 0) tr (upd x 2 (nI 23)), [(ad 2, .inl (D.1 106, 24, .inr (.inr (.inr (.inr (va_up (pRef (rotF pf)) 23 (some (pq 0))))))))], [(sa 0, .inr (2, [.int (c 16), .int (c 1), .int (c 0), .int wn, .ref (sa 1), .ref (sa 2), .ref (sa 3), .ref (sa 4)]))], [(sa 1, .inr (16, [.int md, .ref d, .int (nI n)]))], [(sa 2, .inl (D.1 100, 7, .inl (fun i_ => c (9 + i_))))], [(sa 3, .inl (D.1 100, 7, .inl (fun i_ => c (2 + i_))))], [(sa 4, .inl (D.1 100, 7, .inl od))], [(d, .inl (D.1 104, 10, .inr (.inr (.inr (.inr (rF ra n))))))], [(pq 0, .inr (2, [.int (c 16), .int (c 1), .int (c 0), .int wn, .ref (pq 1), .ref (pq 2), .ref (pq 3), .ref (pq 4)]))], [(pq 1, .inr (16, [.int md1_103, .ref zd_103, .int (nI n)]))], [(pq 2, .inl (D.1 100, 7, .inl (fun i_ => c (9 + i_))))], [(pq 3, .inl (D.1 100, 7, .inl (fun i_ => c (2 + i_))))], [(pq 4, .inl (D.1 100, 7, .inl (fun _ => 0)))], [(zd_103, .inl (D.1 104, 10, .inr (.inr (.inr (.inr (rF ra n))))))], T, pstP D (setS (rotF pf) 23 none) 24] 6 42 ?_ rfl rfl rfl
            refine z_eq (lv₂ := [(0, .ref o), (1, .ref (s0.1 0)), (2, .int (nI i))]) (st₂ := [.ref (pq 0)]) ?_ rfl rfl
            refine z_weq [cOb o ad (sa 0) (sb 0) tr (upd x 2 (nI 23)), [(ad 2, .inl (D.1 106, 24, .inr (.inr (.inr (.inr (pRef (setS (rotF pf) 23 (some (pq, ((some zd_103, n, ra), (md1_103, wn, fun _ => 0), c))))))))))], [(sa 0, .inr (2, [.int (c 16), .int (c 1), .int (c 0), .int wn, .ref (sa 1), .ref (sa 2), .ref (sa 3), .ref (sa 4)]))], [(sa 1, .inr (16, [.int md, .ref d, .int (nI n)]))], [(sa 2, .inl (D.1 100, 7, .inl (fun i_ => c (9 + i_))))], [(sa 3, .inl (D.1 100, 7, .inl (fun i_ => c (2 + i_))))], [(sa 4, .inl (D.1 100, 7, .inl od))], [(d, .inl (D.1 104, 10, .inr (.inr (.inr (.inr (rF ra n))))))], [(pq 0, .inr (2, [.int (c 16), .int (c 1), .int (c 0), .int wn, .ref (pq 1), .ref (pq 2), .ref (pq 3), .ref (pq 4)]))], [(pq 1, .inr (16, [.int md1_103, .ref zd_103, .int (nI n)]))], [(pq 2, .inl (D.1 100, 7, .inl (fun i_ => c (9 + i_))))], [(pq 3, .inl (D.1 100, 7, .inl (fun i_ => c (2 + i_))))], [(pq 4, .inl (D.1 100, 7, .inl (fun _ => 0)))], [(zd_103, .inl (D.1 104, 10, .inr (.inr (.inr (.inr (rF ra n))))))], T, pstP D (setS (rotF pf) 23 none) 24] (by rw [← pRef_set]) ?_
            refine z_ws [cOb o ad (sa 0) (sb 0) tr (upd x 2 (nI 23)), [(ad 2, .inl (D.1 106, 24, .inr (.inr (.inr (.inr (pRef (setS (rotF pf) 23 (some (pq, ((some zd_103, n, ra), (md1_103, wn, fun _ => 0), c))))))))))], [(sa 0, .inr (2, [.int (c 16), .int (c 1), .int (c 0), .int wn, .ref (sa 1), .ref (sa 2), .ref (sa 3), .ref (sa 4)]))], [(sa 1, .inr (16, [.int md, .ref d, .int (nI n)]))], [(sa 2, .inl (D.1 100, 7, .inl (fun i_ => c (9 + i_))))], [(sa 3, .inl (D.1 100, 7, .inl (fun i_ => c (2 + i_))))], [(sa 4, .inl (D.1 100, 7, .inl od))], [(d, .inl (D.1 104, 10, .inr (.inr (.inr (.inr (rF ra n))))))], thP D pq ((some zd_103, n, ra), (md1_103, wn, fun _ => 0), c), T, pstP D (setS (rotF pf) 23 none) 24] (List.Perm.refl _) ?_
            refine z_re [0, 1, 2, 3, 4, 5, 6, 7, 8, 10, 9] [cOb o ad (sa 0) (sb 0) tr (upd x 2 (nI 23)), [(ad 2, .inl (D.1 106, 24, .inr (.inr (.inr (.inr (pRef (setS (rotF pf) 23 (some (pq, ((some zd_103, n, ra), (md1_103, wn, fun _ => 0), c))))))))))], [(sa 0, .inr (2, [.int (c 16), .int (c 1), .int (c 0), .int wn, .ref (sa 1), .ref (sa 2), .ref (sa 3), .ref (sa 4)]))], [(sa 1, .inr (16, [.int md, .ref d, .int (nI n)]))], [(sa 2, .inl (D.1 100, 7, .inl (fun i_ => c (9 + i_))))], [(sa 3, .inl (D.1 100, 7, .inl (fun i_ => c (2 + i_))))], [(sa 4, .inl (D.1 100, 7, .inl od))], [(d, .inl (D.1 104, 10, .inr (.inr (.inr (.inr (rF ra n))))))], thP D pq ((some zd_103, n, ra), (md1_103, wn, fun _ => 0), c), pstP D (setS (rotF pf) 23 none) 24, T] rfl (zpl 11 rfl (by decide +kernel)) ?_
            refine z_ws [cOb o ad (sa 0) (sb 0) tr (upd x 2 (nI 23)), [(ad 2, .inl (D.1 106, 24, .inr (.inr (.inr (.inr (pRef (setS (rotF pf) 23 (some (pq, ((some zd_103, n, ra), (md1_103, wn, fun _ => 0), c))))))))))], [(sa 0, .inr (2, [.int (c 16), .int (c 1), .int (c 0), .int wn, .ref (sa 1), .ref (sa 2), .ref (sa 3), .ref (sa 4)]))], [(sa 1, .inr (16, [.int md, .ref d, .int (nI n)]))], [(sa 2, .inl (D.1 100, 7, .inl (fun i_ => c (9 + i_))))], [(sa 3, .inl (D.1 100, 7, .inl (fun i_ => c (2 + i_))))], [(sa 4, .inl (D.1 100, 7, .inl od))], [(d, .inl (D.1 104, 10, .inr (.inr (.inr (.inr (rF ra n))))))], pstP D (setS (rotF pf) 23 (some (pq, ((some zd_103, n, ra), (md1_103, wn, fun _ => 0), c)))) 24, T] (gs_perm (pstP D (setS (rotF pf) 23 (some (pq, ((some zd_103, n, ra), (md1_103, wn, fun _ => 0), c)))) 24) 8 2 rfl (pst_c (by omega))) ?_
            refine z_pop (pc := 106) gX dX0_keep_106 rfl ?_
            refine z_aload_n (pc := 107) gX 0 dX0_keep_107 rfl rfl ?_
            refine z_dup (pc := 108) gX dX0_keep_108 rfl ?_
            refine z_get (pc := 109) gX (zI_ok gX hAX) (zm 0 rfl) (ci := 0) (C := RX0) (T := TX0) (N := 14) rfl in_X0 7 (by decide) q216 (fun _ h => h) (v := .int (nI 23)) rfl dX0_keep_109 ?_
            refine z_iconst (pc := 112) gX 1 dX0_keep_112 (by decide) ?_
            refine z_iadd (pc := 113) gX dX0_keep_113 ?_
            refine z_top (nI 24) (nI_add 23 1) ?_
            refine z_put (pc := 114) gX hAX 0 rfl (ci := 0) (C := RX0) (T := TX0) (N := 14) rfl in_X0 tyX0 tyX0_ok nmX0 7 (by decide) q216 (fun _ h => h) rfl (v := .int (nI 24)) rfl rfl (Nat.le_of_ble_eq_true rfl) [cOb o ad (sa 0) (sb 0) tr (upd x 2 (nI 24)), [(ad 2, .inl (D.1 106, 24, .inr (.inr (.inr (.inr (pRef (setS (rotF pf) 23 (some (pq, ((some zd_103, n, ra), (md1_103, wn, fun _ => 0), c))))))))))], [(sa 0, .inr (2, [.int (c 16), .int (c 1), .int (c 0), .int wn, .ref (sa 1), .ref (sa 2), .ref (sa 3), .ref (sa 4)]))], [(sa 1, .inr (16, [.int md, .ref d, .int (nI n)]))], [(sa 2, .inl (D.1 100, 7, .inl (fun i_ => c (9 + i_))))], [(sa 3, .inl (D.1 100, 7, .inl (fun i_ => c (2 + i_))))], [(sa 4, .inl (D.1 100, 7, .inl od))], [(d, .inl (D.1 104, 10, .inr (.inr (.inr (.inr (rF ra n))))))], pstP D (setS (rotF pf) 23 (some (pq, ((some zd_103, n, ra), (md1_103, wn, fun _ => 0), c)))) 24, T] rfl dX0_keep_114 ?_
            exact z_vret gX hQX (pq, ((some zd_103, n, ra), (md1_103, wn, fun _ => 0), c)) (⟨_, _, _, rfl⟩) rfl (by simp only [keepF, knK, if_pos k6]) (by first | decide | omega) (by first | decide | omega) dX0_keep_117
          · skip
            obtain ⟨⟨zd, hzd⟩, hz7⟩ := (pfG_rot hpf) 23 _ hq
            have hzd : za = some zd := hzd
            have hz7 : zn ≤ 7 := hz7
            subst hzd
            refine z_ws [cOb o ad (sa 0) (sb 0) tr (upd x 2 (nI 23)), [(ad 2, .inl (D.1 106, 24, .inr (.inr (.inr (.inr (pRef (rotF pf)))))))], [(sa 0, .inr (2, [.int (c 16), .int (c 1), .int (c 0), .int wn, .ref (sa 1), .ref (sa 2), .ref (sa 3), .ref (sa 4)]))], [(sa 1, .inr (16, [.int md, .ref d, .int (nI n)]))], [(sa 2, .inl (D.1 100, 7, .inl (fun i_ => c (9 + i_))))], [(sa 3, .inl (D.1 100, 7, .inl (fun i_ => c (2 + i_))))], [(sa 4, .inl (D.1 100, 7, .inl od))], [(d, .inl (D.1 104, 10, .inr (.inr (.inr (.inr (rF ra n))))))], thP D pq ((some zd, zn, zra), (zmd, zwn, zod), zc), pstP D (setS (rotF pf) 23 none) 24, T] (sg_perm [thP D pq ((some zd, zn, zra), (zmd, zwn, zod), zc), pstP D (setS (rotF pf) 23 none) 24] 8 rfl rfl (pst_o2 (by omega) hq)) ?_
            refine z_ws [cOb o ad (sa 0) (sb 0) tr (upd x 2 (nI 23)), [(ad 2, .inl (D.1 106, 24, .inr (.inr (.inr (.inr (pRef (rotF pf)))))))], [(sa 0, .inr (2, [.int (c 16), .int (c 1), .int (c 0), .int wn, .ref (sa 1), .ref (sa 2), .ref (sa 3), .ref (sa 4)]))], [(sa 1, .inr (16, [.int md, .ref d, .int (nI n)]))], [(sa 2, .inl (D.1 100, 7, .inl (fun i_ => c (9 + i_))))], [(sa 3, .inl (D.1 100, 7, .inl (fun i_ => c (2 + i_))))], [(sa 4, .inl (D.1 100, 7, .inl od))], [(d, .inl (D.1 104, 10, .inr (.inr (.inr (.inr (rF ra n))))))], [(pq 0, .inr (2, [.int (zc 16), .int (zc 1), .int (zc 0), .int zwn, .ref (pq 1), .ref (pq 2), .ref (pq 3), .ref (pq 4)]))], [(pq 1, .inr (16, [.int zmd, .ref zd, .int (nI zn)]))], [(pq 2, .inl (D.1 100, 7, .inl (fun i_ => zc (9 + i_))))], [(pq 3, .inl (D.1 100, 7, .inl (fun i_ => zc (2 + i_))))], [(pq 4, .inl (D.1 100, 7, .inl zod))], [(zd, .inl (D.1 104, 10, .inr (.inr (.inr (.inr (rF zra zn))))))], pstP D (setS (rotF pf) 23 none) 24, T] (List.Perm.refl _) ?_
            refine z_ald (pc := 70) gX (zI_ok gX hAX) (j := 23) (n := 24) (f := (pRef (rotF pf))) (zm 1 rfl) 6 rfl (by omega) (by decide) (pq 0) (pRef_i hq) dX0_keep_70 ?_
            refine z_ifnonnull (pc := 71) gX 90 dX0_keep_71 (by decide) ?_
            refine z_aload_n (pc := 90) gX 0 dX0_keep_90 rfl rfl ?_
            refine z_get (pc := 91) gX (zI_ok gX hAX) (zm 0 rfl) (ci := 0) (C := RX0) (T := TX0) (N := 14) rfl in_X0 6 (by decide) q215 (fun _ h => h) (v := .ref (ad 2)) rfl dX0_keep_91 ?_
            refine z_aload_n (pc := 94) gX 0 dX0_keep_94 rfl rfl ?_
            refine z_get (pc := 95) gX (zI_ok gX hAX) (zm 0 rfl) (ci := 0) (C := RX0) (T := TX0) (N := 14) rfl in_X0 7 (by decide) q216 (fun _ h => h) (v := .int (nI 23)) rfl dX0_keep_95 ?_
            refine z_ald (pc := 98) gX (zI_ok gX hAX) (j := 23) (n := 24) (f := (pRef (rotF pf))) (zm 1 rfl) 6 rfl (by omega) (by decide) (pq 0) (pRef_i hq) dX0_keep_98 ?_
            refine z_aload_n (pc := 99) gX 0 dX0_keep_99 rfl rfl ?_
            refine z_get (pc := 100) gX (zI_ok gX hAX) (zm 0 rfl) (ci := 0) (C := RX0) (T := TX0) (N := 14) rfl in_X0 4 (by decide) q213 (fun _ h => h) (v := .ref (sa 0)) rfl dX0_keep_100 ?_
            refine z_cMV (pc := 103) gX hAX [.ref (sa 0)] [] [8, 9, 10, 11, 12, 13, 2, 3, 4, 5, 6, 7, 15] [0, 1, 14] (fun A1 => met_X2_becomeG l D B0 A1 sa (c 16) (c 1) (c 0) wn md d n (fun i_ => c (9 + i_)) (fun i_ => c (2 + i_)) od ra (fun r => c (18 + r)) T pq (zc 16) (zc 1) (zc 0) zwn zmd (fun i_ => zc (9 + i_)) (fun i_ => zc (2 + i_)) zod zd zn zra hG.2.1 hG.2.2.2.2.2.2.2 hz7) q784 q785 q786 q49 q787 (zm 8 rfl) (ci := 2) rfl rfl hd_X2_become ⟨rfl, rfl⟩ ⟨(Nat.le_of_ble_eq_true rfl), (Nat.le_of_ble_eq_true rfl)⟩ rfl rfl (zpl 16 rfl (by decide +kernel)) rfl rfl (Nat.le_of_ble_eq_true rfl) ⟨(Nat.le_of_ble_eq_true rfl), (Nat.le_of_ble_eq_true rfl)⟩ dX0_keep_103 ?_
            intro u103 hu103
            obtain ⟨md1_103, rfl⟩ : ∃ z, z = u103 := ⟨_, rfl⟩
            refine z_re [13, 14, 6, 7, 8, 9, 10, 11, 0, 1, 2, 3, 4, 5, 15, 12] [cOb o ad (sa 0) (sb 0) tr (upd x 2 (nI 23)), [(ad 2, .inl (D.1 106, 24, .inr (.inr (.inr (.inr (pRef (rotF pf)))))))], [(sa 0, .inr (2, [.int (c 16), .int (c 1), .int (c 0), .int wn, .ref (sa 1), .ref (sa 2), .ref (sa 3), .ref (sa 4)]))], [(sa 1, .inr (16, [.int md, .ref d, .int (nI n)]))], [(sa 2, .inl (D.1 100, 7, .inl (fun i_ => c (9 + i_))))], [(sa 3, .inl (D.1 100, 7, .inl (fun i_ => c (2 + i_))))], [(sa 4, .inl (D.1 100, 7, .inl od))], [(d, .inl (D.1 104, 10, .inr (.inr (.inr (.inr (rF ra n))))))], [(pq 0, .inr (2, [.int (c 16), .int (c 1), .int (c 0), .int wn, .ref (pq 1), .ref (pq 2), .ref (pq 3), .ref (pq 4)]))], [(pq 1, .inr (16, [.int md1_103, .ref zd, .int (nI n)]))], [(pq 2, .inl (D.1 100, 7, .inl (fun i_ => c (9 + i_))))], [(pq 3, .inl (D.1 100, 7, .inl (fun i_ => c (2 + i_))))], [(pq 4, .inl (D.1 100, 7, .inl zod))], [(zd, .inl (D.1 104, 10, .inr (.inr (.inr (.inr (rF ra n))))))], pstP D (setS (rotF pf) 23 none) 24, T] rfl (zpl 16 rfl (by decide +kernel)) ?_
            refine z_eq (lv₂ := [(0, .ref o), (1, .ref (s0.1 0)), (2, .int (nI i))]) (st₂ := [.ref (pq 0)]) ?_ rfl rfl
            refine z_weq [cOb o ad (sa 0) (sb 0) tr (upd x 2 (nI 23)), [(ad 2, .inl (D.1 106, 24, .inr (.inr (.inr (.inr (pRef (setS (rotF pf) 23 (some (pq, ((some zd, n, ra), (md1_103, wn, zod), c))))))))))], [(sa 0, .inr (2, [.int (c 16), .int (c 1), .int (c 0), .int wn, .ref (sa 1), .ref (sa 2), .ref (sa 3), .ref (sa 4)]))], [(sa 1, .inr (16, [.int md, .ref d, .int (nI n)]))], [(sa 2, .inl (D.1 100, 7, .inl (fun i_ => c (9 + i_))))], [(sa 3, .inl (D.1 100, 7, .inl (fun i_ => c (2 + i_))))], [(sa 4, .inl (D.1 100, 7, .inl od))], [(d, .inl (D.1 104, 10, .inr (.inr (.inr (.inr (rF ra n))))))], [(pq 0, .inr (2, [.int (c 16), .int (c 1), .int (c 0), .int wn, .ref (pq 1), .ref (pq 2), .ref (pq 3), .ref (pq 4)]))], [(pq 1, .inr (16, [.int md1_103, .ref zd, .int (nI n)]))], [(pq 2, .inl (D.1 100, 7, .inl (fun i_ => c (9 + i_))))], [(pq 3, .inl (D.1 100, 7, .inl (fun i_ => c (2 + i_))))], [(pq 4, .inl (D.1 100, 7, .inl zod))], [(zd, .inl (D.1 104, 10, .inr (.inr (.inr (.inr (rF ra n))))))], pstP D (setS (rotF pf) 23 none) 24, T] (by rw [← pRef_same (s := (pq, ((some zd, n, ra), (md1_103, wn, zod), c))) (show pRef (rotF pf) 23 = some (pq 0) from pRef_i hq)]) ?_
            refine z_ws [cOb o ad (sa 0) (sb 0) tr (upd x 2 (nI 23)), [(ad 2, .inl (D.1 106, 24, .inr (.inr (.inr (.inr (pRef (setS (rotF pf) 23 (some (pq, ((some zd, n, ra), (md1_103, wn, zod), c))))))))))], [(sa 0, .inr (2, [.int (c 16), .int (c 1), .int (c 0), .int wn, .ref (sa 1), .ref (sa 2), .ref (sa 3), .ref (sa 4)]))], [(sa 1, .inr (16, [.int md, .ref d, .int (nI n)]))], [(sa 2, .inl (D.1 100, 7, .inl (fun i_ => c (9 + i_))))], [(sa 3, .inl (D.1 100, 7, .inl (fun i_ => c (2 + i_))))], [(sa 4, .inl (D.1 100, 7, .inl od))], [(d, .inl (D.1 104, 10, .inr (.inr (.inr (.inr (rF ra n))))))], thP D pq ((some zd, n, ra), (md1_103, wn, zod), c), pstP D (setS (rotF pf) 23 none) 24, T] (List.Perm.refl _) ?_
            refine z_ws [cOb o ad (sa 0) (sb 0) tr (upd x 2 (nI 23)), [(ad 2, .inl (D.1 106, 24, .inr (.inr (.inr (.inr (pRef (setS (rotF pf) 23 (some (pq, ((some zd, n, ra), (md1_103, wn, zod), c))))))))))], [(sa 0, .inr (2, [.int (c 16), .int (c 1), .int (c 0), .int wn, .ref (sa 1), .ref (sa 2), .ref (sa 3), .ref (sa 4)]))], [(sa 1, .inr (16, [.int md, .ref d, .int (nI n)]))], [(sa 2, .inl (D.1 100, 7, .inl (fun i_ => c (9 + i_))))], [(sa 3, .inl (D.1 100, 7, .inl (fun i_ => c (2 + i_))))], [(sa 4, .inl (D.1 100, 7, .inl od))], [(d, .inl (D.1 104, 10, .inr (.inr (.inr (.inr (rF ra n))))))], pstP D (setS (rotF pf) 23 (some (pq, ((some zd, n, ra), (md1_103, wn, zod), c)))) 24, T] (gs_perm (pstP D (setS (rotF pf) 23 (some (pq, ((some zd, n, ra), (md1_103, wn, zod), c)))) 24) 8 2 rfl (pst_c (by omega))) ?_
            refine z_pop (pc := 106) gX dX0_keep_106 rfl ?_
            refine z_aload_n (pc := 107) gX 0 dX0_keep_107 rfl rfl ?_
            refine z_dup (pc := 108) gX dX0_keep_108 rfl ?_
            refine z_get (pc := 109) gX (zI_ok gX hAX) (zm 0 rfl) (ci := 0) (C := RX0) (T := TX0) (N := 14) rfl in_X0 7 (by decide) q216 (fun _ h => h) (v := .int (nI 23)) rfl dX0_keep_109 ?_
            refine z_iconst (pc := 112) gX 1 dX0_keep_112 (by decide) ?_
            refine z_iadd (pc := 113) gX dX0_keep_113 ?_
            refine z_top (nI 24) (nI_add 23 1) ?_
            refine z_put (pc := 114) gX hAX 0 rfl (ci := 0) (C := RX0) (T := TX0) (N := 14) rfl in_X0 tyX0 tyX0_ok nmX0 7 (by decide) q216 (fun _ h => h) rfl (v := .int (nI 24)) rfl rfl (Nat.le_of_ble_eq_true rfl) [cOb o ad (sa 0) (sb 0) tr (upd x 2 (nI 24)), [(ad 2, .inl (D.1 106, 24, .inr (.inr (.inr (.inr (pRef (setS (rotF pf) 23 (some (pq, ((some zd, n, ra), (md1_103, wn, zod), c))))))))))], [(sa 0, .inr (2, [.int (c 16), .int (c 1), .int (c 0), .int wn, .ref (sa 1), .ref (sa 2), .ref (sa 3), .ref (sa 4)]))], [(sa 1, .inr (16, [.int md, .ref d, .int (nI n)]))], [(sa 2, .inl (D.1 100, 7, .inl (fun i_ => c (9 + i_))))], [(sa 3, .inl (D.1 100, 7, .inl (fun i_ => c (2 + i_))))], [(sa 4, .inl (D.1 100, 7, .inl od))], [(d, .inl (D.1 104, 10, .inr (.inr (.inr (.inr (rF ra n))))))], pstP D (setS (rotF pf) 23 (some (pq, ((some zd, n, ra), (md1_103, wn, zod), c)))) 24, T] rfl dX0_keep_114 ?_
            exact z_vret gX hQX (pq, ((some zd, n, ra), (md1_103, wn, zod), c)) (⟨_, _, _, rfl⟩) rfl (by simp only [keepF, knK, if_pos k6]) (by first | decide | omega) (by first | decide | omega) dX0_keep_117
        · skip
          have k21 : i < 24 := (zn_nle (a := 24) (b := i) (by omega) (by omega)).mp c21
          refine z_aload_n (pc := 24) gX 0 dX0_keep_24 rfl rfl ?_
          refine z_get (pc := 25) gX (zI_ok gX hAX) (zm 0 rfl) (ci := 0) (C := RX0) (T := TX0) (N := 14) rfl in_X0 6 (by decide) q215 (fun _ h => h) (v := .ref (ad 2)) rfl dX0_keep_25 ?_
          refine z_iload_n (pc := 28) gX 2 dX0_keep_28 rfl rfl ?_
          refine z_iconst (pc := 29) gX 1 dX0_keep_29 (by decide) ?_
          refine z_isub (pc := 30) gX dX0_keep_30 ?_
          refine z_top (nI (i - 1)) (pk_sub (by omega)) ?_
          refine z_aload_n (pc := 31) gX 0 dX0_keep_31 rfl rfl ?_
          refine z_get (pc := 32) gX (zI_ok gX hAX) (zm 0 rfl) (ci := 0) (C := RX0) (T := TX0) (N := 14) rfl in_X0 6 (by decide) q215 (fun _ h => h) (v := .ref (ad 2)) rfl dX0_keep_32 ?_
          refine z_iload_n (pc := 35) gX 2 dX0_keep_35 rfl rfl ?_
          obtain ⟨s2, hs2⟩ := hfill i (by omega)
          refine z_ald (pc := 36) gX (zI_ok gX hAX) (j := i) (n := 24) (f := f2) (zm 1 rfl) 6 rfl (by omega) (by decide) (s2.1 0) (by rw [hf2]; simp only [shR]; rw [if_neg (by omega)]; exact pRef_i hs2) dX0_keep_36 ?_
          refine z_ast (pc := 37) gX hAX 1 (j := (i - 1)) (n := 24) (f := f2) rfl 6 rfl (by omega) (by decide) (zpm 8 rfl (pst_mem hs2 24 (by omega))) (show vwCl[2]? = _ from rfl) (fun comp c0 h1 h2 => vb_asgS comp c0 h1 h2) [cOb o ad (sa 0) (sb 0) tr x, [(ad 2, .inl (D.1 106, 24, .inr (.inr (.inr (.inr (va_up f2 (i - 1) (some (s2.1 0))))))))], [(sa 0, .inr (2, [.int (c 16), .int (c 1), .int (c 0), .int wn, .ref (sa 1), .ref (sa 2), .ref (sa 3), .ref (sa 4)]))], [(sa 1, .inr (16, [.int md, .ref d, .int (nI n)]))], [(sa 2, .inl (D.1 100, 7, .inl (fun i_ => c (9 + i_))))], [(sa 3, .inl (D.1 100, 7, .inl (fun i_ => c (2 + i_))))], [(sa 4, .inl (D.1 100, 7, .inl od))], [(d, .inl (D.1 104, 10, .inr (.inr (.inr (.inr (rF ra n))))))], pstP D pf 24, T] rfl dX0_keep_37 ?_
          refine z_iinc (pc := 38) gX 2 (nI (i + 1)) [1, 2, 0] [(0, .ref o), (1, .ref (s0.1 0)), (2, .int (nI (i + 1)))] dX0_keep_38 rfl (nI_1 _) (by decide) rfl ?_
          refine z_goto (pc := 41) gX 18 dX0_keep_41 (by decide) ?_
          exact ih18 (i + 1) (va_up f2 (i - 1) (some (s2.1 0))) (by omega) (by omega) (by rw [hf2]; exact shR_s hi1 (pRef_i hs2)) (by omega)
    exact L18 ((24 - 1) + 1) 1 (pRef pf) (by omega) (by omega) shR_1 (Nat.lt_succ_self _)
theorem hd_X0_keep : zHd yX0_keep 0 := by unfold zHd; decide +kernel

