set_option maxRecDepth 100000
/-! COPY between rows -/
theorem mSt_t {x : Nat → Int32} : mSt x (-1000015) = upd x 0 5 := rfl
theorem slc_mem {D : va_G} {sh : Nat → Nat} {rw : Nat → rT} {i : Nat} (h : i < 8) : ∀ x ∈ shG D (sh i) (rw i), x ∈ slP D sh rw 8 := fun x hx => (sl_o (D := D) (sh := sh) (rw := rw) h).mem_iff.mpr (List.mem_append_left _ hx)
theorem slc_memN {D : va_G} {sh : Nat → Nat} {rw : Nat → rT} {i : Nat} (h : i < 8) (hr : rw i = none) : (sh i, (.inr (1, [.null]) : va_E)) ∈ slP D sh rw 8 := slc_mem h _ (by rw [hr]; simp [shG, rwV, rwA])
theorem slc_memS {D : va_G} {sh : Nat → Nat} {rw : Nat → rT} {i a w n : Nat} {f : Nat → Int32} (h : i < 8) (hr : rw i = some (a, w, n, f)) : (sh i, (.inr (1, [.ref a]) : va_E)) ∈ slP D sh rw 8 := slc_mem h _ (by rw [hr]; simp [shG, rwV, rwA])
theorem slc_memA {D : va_G} {sh : Nat → Nat} {rw : Nat → rT} {i a w n : Nat} {f : Nat → Int32} (h : i < 8) (hr : rw i = some (a, w, n, f)) : (a, (.inl (rwC D w, n, .inl f) : va_E)) ∈ slP D sh rw 8 := slc_mem h _ (by rw [hr]; simp [shG, rwV, rwA])
theorem slR_memA {D : va_G} {sh : Nat → Nat} {rw : Nat → rT} {i j a w n : Nat} {f : Nat → Int32} (h : i < 8) (hj : j < 8) (hij : ¬ i = j) (hr : rw i = some (a, w, n, f)) : (a, (.inl (rwC D w, n, .inl f) : va_E)) ∈ slR D sh rw j := by
  have h1 := gP_open (g := setG (fun j => shG D (sh j) (rw j)) j []) 8 h
  refine h1.mem_iff.mpr (List.mem_append_left _ ?_)
  simp only [setG, if_neg hij]
  rw [hr]; simp [shG, rwV, rwA]
/-- what lies in a row is cut to its lane -/
def itN (sz wd it : Nat → Int32) : Prop := ∀ i, i < 8 → ∀ n, sz i = nI n → n ≤ 40 → ∀ j, j < n → mCut (wd i) (it (40 * i + j)) = it (40 * i + j)
theorem fit_b {v : Int32} (h : mCut 0 v = v) : fits .byte (.int v) = true := by
  have h : v.toInt8.toInt32 = v := h
  rw [← h]
  simp only [fits, Bool.and_eq_true, decide_eq_true_eq]
  have a := Int8.le_toInt v.toInt8
  have b := Int8.toInt_lt v.toInt8
  constructor
  · rw [Int32.le_iff_toInt_le, Int8.toInt_toInt32]; exact a
  · rw [Int32.le_iff_toInt_le, Int8.toInt_toInt32]; show v.toInt8.toInt ≤ 127; omega
theorem fit_s {v : Int32} (h : mCut 1 v = v) : fits .short (.int v) = true := by
  have h : v.toInt16.toInt32 = v := h
  rw [← h]
  simp only [fits, Bool.and_eq_true, decide_eq_true_eq]
  have a := Int16.le_toInt v.toInt16
  have b := Int16.toInt_lt v.toInt16
  constructor
  · rw [Int32.le_iff_toInt_le, Int16.toInt_toInt32]; exact a
  · rw [Int32.le_iff_toInt_le, Int16.toInt_toInt32]; show v.toInt16.toInt ≤ 32767; omega
theorem rwR.copy {rw : Nat → rT} {sz wd it : Nat → Int32} {i j a b w n1 n2 sp dp mm : Nat} {f1 f2 : Nat → Int32} (h : rwR rw sz wd it) (hi : i < 8) (hj : j < 8) (h1 : rw i = Option.some (a, w, n1, f1)) (h2 : rw j = Option.some (b, w, n2, f2)) (hs : sp + mm ≤ n1) (hd : dp + mm ≤ n2) :
    rwR (setR rw j (Option.some (b, w, n2, va_cpy f1 f2 sp dp mm))) sz wd (cpT it (40 * j + dp) (fun k => it (40 * i + sp + k)) mm) := by
  obtain ⟨p2, p3, p4, p5, p6⟩ := h.some hi h1
  obtain ⟨g2, g3, g4, g5, g6⟩ := h.some hj h2
  intro z hz
  by_cases e : z = j
  · subst e
    refine Or.inr ⟨b, w, n2, _, if_pos rfl, g2, g3, g4, g5, fun y hy => ?_⟩
    simp only [va_cpy, cpT]
    by_cases e2 : dp ≤ y ∧ y < dp + mm
    · rw [if_pos e2, if_pos (by omega), p6 _ (by omega)]
      congr 1; omega
    · rw [if_neg e2, if_neg (by omega)]; exact g6 y hy
  · rcases h z hz with ⟨q1, q2⟩ | ⟨a1, w1, m1, f3, q1, q2, q3, q4, q5, q6⟩
    · exact Or.inl ⟨q1, by rw [show setR rw j _ z = rw z from if_neg e]; exact q2⟩
    · refine Or.inr ⟨a1, w1, m1, f3, by rw [show setR rw j _ z = rw z from if_neg e]; exact q1, q2, q3, q4, q5, fun y hy => ?_⟩
      rw [q6 y hy]
      simp only [cpT]
      rw [if_neg (by omega)]
theorem lies2 {n1 n2 : Nat} {i j n : Int32} (h1 : n1 ≤ 40) (h2 : n2 ≤ 40) : (∃ sp dp mm, sp + mm ≤ n1 ∧ dp + mm ≤ n2 ∧ i = nI sp ∧ j = nI dp ∧ n = nI mm ∧ (mLies (nI n1) i n && mLies (nI n2) j n) = true) ∨ (mLies (nI n1) i n && mLies (nI n2) j n) = false := by
  cases e : (mLies (nI n1) i n && mLies (nI n2) j n) with
  | false => exact Or.inr rfl
  | true =>
    left
    obtain ⟨e1, e2⟩ := (Bool.and_eq_true _ _).mp e
    obtain ⟨a, b, m0, p1, p2, p3, p4, p5⟩ := mLies_nat e1 (nI_le (a := n1) (b := 40) (by omega) (by omega))
    obtain ⟨a2, b2, m2, r1, r2, r3, r4, r5⟩ := mLies_nat e2 (nI_le (a := n2) (b := 40) (by omega) (by omega))
    have k1 := (zn_eq (a := n1) (b := m0) (by omega) (by omega)).mp p3
    have k2 := (zn_eq (a := n2) (b := m2) (by omega) (by omega)).mp r3
    have k3 := (zn_eq (a := b) (b := b2) (by omega) (by omega)).mp (p2.symm.trans r2)
    exact ⟨a, a2, b, by omega, by omega, p1, r1, p2, rfl⟩
section ZC5
variable {p : Program} {l : Launch} {e : Env} {R : Room} {s : State} {m : MethodId} {args : Array Value} {below : List Frame} {meth : Method} {c : Code} {Q : State → Prop} {nL : Nat} {D : va_G} {A : Nat → Prop} {cells slots : Nat} {cc : ByteArray} {own : String} {ret : Option FieldType} {B0 : Nat} {pc : Nat} {lv lv' : List (Nat × Value)} {st : List Value} {ws ws' wc wr : List va_W} {I : Heap → List Loc → Prop}
theorem z_copyi2 (g : zG p s m args meth c cc nL own ret D B0) (hA : zA s A B0) {index : Nat} (qs : Cond.methodLink own index arraycopyName ∈ lw_all ∧ Cond.native arraycopyName ∈ lw_all ∧ Cond.static arraycopyName ∈ lw_all ∧ Cond.initialized "java/lang/System" ∈ lw_all) (q1 t0 : Nat) {a0 a n0 n1 sp dp n : Nat} {c0 : ClassId} {f g1 : Nat → Int32} {ty : FieldType} (hm0 : (a0, .inl (c0, n0, .inl f)) ∈ ws.flatten) (ha1 : ws.flatten[q1]? = some (a, .inl (c0, n1, .inl g1))) (ht0 : (zTy D)[t0]? = some (c0, ty)) (hprim : refKind ty = false) (hb : sp < 2147483648 ∧ dp < 2147483648 ∧ n < 2147483648) (h4 : sp + n ≤ n0) (h5 : dp + n ≤ n1) (hfit : ∀ i, i < n → fits ty (.int (f (sp + i))) = true) (hfr : 1 ≤ R.frames) (hlo : (st.map fun v => v.category).sum + (nativeFrameWords "java/lang/System" "arraycopy" 5 + 11) ≤ R.locals) (ws' : List va_W) (hws : ws.flatten.set q1 (a, .inl (c0, n1, .inl (va_cpy f g1 sp dp n))) = ws'.flatten) (d : decode cc pc = .ok (.invokestatic index, 3)) (kk : (zJ p l e R s m args below meth c Q nL (zI D A s ws') (cells) (slots) (pc + 3) (lv) (st))) : (zJ p l e R s m args below meth c Q nL (zI D A s ws) (cells) (slots) (pc) (lv) (.int (nI n) :: .int (nI dp) :: .ref a :: .int (nI sp) :: .ref a0 :: st)) := by
  obtain ⟨q0, ha0⟩ := List.getElem?_of_mem hm0
  exact z_copyi g hA qs q0 q1 t0 ha0 ha1 ht0 hprim hb h4 h5 hfit hfr hlo ws' hws d kk
end ZC5

set_option maxHeartbeats 4000000 in
theorem met_X0_copy (l : Launch) (D : va_G) (B0 : Nat) (A : Nat → Prop) (o : Nat) (ad : Nat → Nat) (sa : Nat → Nat) (sb : Nat → Nat) (tr : Nat) (x : Nat → Int32) (sh : Nat → Nat) (rw : Nat → rT) (xm : Nat → Int32) (sz : Nat → Int32) (wd : Nat → Int32) (it : Nat → Int32) (p : Int32) (i_ : Int32) (q : Int32) (j_ : Int32) (m : Int32) (hl : l.stackTraces = false) (hx3 : x 3 = xm 0) (hW : rwR rw sz wd it) (hN : itN sz wd it) (hNP : NatNpe) : Met l yX0_copy (wsW_ yX0_copy cX0_copy 7 (some .int) [(17, 49, 50, 113), (17, 49, 58, 123), (17, 49, 66, 125)]) (zRm 173 3 410) (va_Pc [.ref o, .int p, .int i_, .int q, .int j_, .int m] (zPre B0 D A [cOb o ad (sa 0) (sb 0) tr x, [(ad 0, .inl (D.1 105, 8, .inr (.inr (.inr (.inr (rF sh 8))))))], slP D sh rw 8])) (zQ (S := Int32 × (Nat → Int32) × (Nat → Int32) × (Nat → rT)) (fun u => (fun (r_ : Int32) (xm1 : Nat → Int32) (it1 : Nat → Int32) (rw1 : Nat → rT) => (r_, xm1, it1) = mCopy xm sz wd it p i_ q j_ m ∧ rwR rw1 sz wd it1) u.1 u.2.1 u.2.2.1 u.2.2.2) (fun u => (fun (r_ : Int32) (xm1 : Nat → Int32) (it1 : Nat → Int32) (rw1 : Nat → rT) => some (.int r_)) u.1 u.2.1 u.2.2.1 u.2.2.2) (fun u => (fun (r_ : Int32) (xm1 : Nat → Int32) (it1 : Nat → Int32) (rw1 : Nat → rT) => [cOb o ad (sa 0) (sb 0) tr (upd x 3 (xm1 0)), [(ad 0, .inl (D.1 105, 8, .inr (.inr (.inr (.inr (rF sh 8))))))], slP D sh rw1 8]) u.1 u.2.1 u.2.2.1 u.2.2.2) D A) 3 410 A := by
  refine z_entryW (by decide +kernel) (Nat.le_of_ble_eq_true rfl) (fun pX eX sX mX argsX blX mtX cX QX hQX gX hAX hnm htabX => ?_)
  refine z_eq (lv₂ := [(0, .ref o), (1, .int p), (2, .int i_), (3, .int q), (4, .int j_), (5, .int m)]) (st₂ := []) ?_ rfl rfl
  refine z_iload_n (pc := 0) gX 1 dX0_copy_0 rfl rfl ?_
  refine z_cOS (pc := 1) gX (zI_ok gX hAX) [.int p] [] [] (met_X0_isRow l D B0 p ) q342 q343 q47 q344 hd_X0_isRow ⟨rfl, rfl⟩ ⟨(Nat.le_of_ble_eq_true rfl), (Nat.le_of_ble_eq_true rfl)⟩ rfl rfl rfl (Nat.le_of_ble_eq_true rfl) ⟨(Nat.le_of_ble_eq_true rfl), (Nat.le_of_ble_eq_true rfl)⟩ dX0_copy_1 ?_
  intro _ hu1
  refine z_eq (lv₂ := [(0, .ref o), (1, .int p), (2, .int i_), (3, .int q), (4, .int j_), (5, .int m)]) (st₂ := [.int (bI (mIn p 0 7))]) ?_ rfl rfl
  refine z_if_eq (pc := 4) gX 14 dX0_copy_4 (by decide) (fun c4 => ?_) (fun c4 => ?_)
  · skip
    have k4 : (mIn p 0 7) = false := bI_eq0 c4
    refine z_ldc (pc := 14) gX q350 dX0_copy_14 ?_
    exact z_rim gX hQX (-1000001, xm, it, rw) (⟨by simp [mCopy, k4], hW⟩) rfl (by simp only [show upd x 3 (xm 0) = x by rw [← hx3]; exact upd_self _ _]) (by first | decide | omega) (by first | decide | omega) dX0_copy_16
  · skip
    have k4 : (mIn p 0 7) = true := bI_ne0 c4
    obtain ⟨i, hi, rfl⟩ := mIn_nat k4 7 (by decide)
    refine z_iload_n (pc := 7) gX 3 dX0_copy_7 rfl rfl ?_
    refine z_cOS (pc := 8) gX (zI_ok gX hAX) [.int q] [] [] (met_X0_isRow l D B0 q ) q342 q343 q47 q344 hd_X0_isRow ⟨rfl, rfl⟩ ⟨(Nat.le_of_ble_eq_true rfl), (Nat.le_of_ble_eq_true rfl)⟩ rfl rfl rfl (Nat.le_of_ble_eq_true rfl) ⟨(Nat.le_of_ble_eq_true rfl), (Nat.le_of_ble_eq_true rfl)⟩ dX0_copy_8 ?_
    intro _ hu8
    refine z_eq (lv₂ := [(0, .ref o), (1, .int (nI i)), (2, .int i_), (3, .int q), (4, .int j_), (5, .int m)]) (st₂ := [.int (bI (mIn q 0 7))]) ?_ rfl rfl
    refine z_if_ne (pc := 11) gX 17 dX0_copy_11 (by decide) (fun c11 => ?_) (fun c11 => ?_)
    · skip
      have k11 : (mIn q 0 7) = true := bI_ne0 c11
      obtain ⟨i2, hi2, rfl⟩ := mIn_nat k11 7 (by decide)
      rcases hra : rw i with _ | ⟨a, w1, n1, f1⟩
      · skip
        have hsz1 := hW.none (by omega) hra
        refine z_aload_n (pc := 17) gX 0 dX0_copy_17 rfl rfl ?_
        rcases hrb : rw i2 with _ | ⟨b, w2, n2, f2⟩
        · skip
          have hsz2 := hW.none (by omega) hrb
          refine z_get (pc := 18) gX (zI_ok gX hAX) (zm 0 rfl) (ci := 0) (C := RX0) (T := TX0) (N := 14) rfl in_X0 0 (by decide) q207 (fun _ h => h) (v := .ref (ad 0)) rfl dX0_copy_18 ?_
          refine z_iload_n (pc := 21) gX 1 dX0_copy_21 rfl rfl ?_
          refine z_ald (pc := 22) gX (zI_ok gX hAX) (j := i) (n := 8) (f := (rF sh 8)) (zm 1 rfl) 5 rfl (by omega) (by decide) (sh i) (rF_lt (by omega)) dX0_copy_22 ?_
          refine z_getN (pc := 23) gX (zI_ok gX hAX) (zpm 2 rfl (slc_memN (by omega) hra)) (ci := 1) (C := RX1) (T := TX1) (N := 1) rfl in_X1 0 (by decide) (zm 1 rfl) (fun _ h => h) (v := .null) rfl dX0_copy_23 ?_
          refine z_iload_n (pc := 26) gX 2 dX0_copy_26 rfl rfl ?_
          refine z_aload_n (pc := 27) gX 0 dX0_copy_27 rfl rfl ?_
          refine z_get (pc := 28) gX (zI_ok gX hAX) (zm 0 rfl) (ci := 0) (C := RX0) (T := TX0) (N := 14) rfl in_X0 0 (by decide) q207 (fun _ h => h) (v := .ref (ad 0)) rfl dX0_copy_28 ?_
          refine z_iload_n (pc := 31) gX 3 dX0_copy_31 rfl rfl ?_
          refine z_ald (pc := 32) gX (zI_ok gX hAX) (j := i2) (n := 8) (f := (rF sh 8)) (zm 1 rfl) 5 rfl (by omega) (by decide) (sh i2) (rF_lt (by omega)) dX0_copy_32 ?_
          refine z_getN (pc := 33) gX (zI_ok gX hAX) (zpm 2 rfl (slc_memN (by omega) hrb)) (ci := 1) (C := RX1) (T := TX1) (N := 1) rfl in_X1 0 (by decide) (zm 1 rfl) (fun _ h => h) (v := .null) rfl dX0_copy_33 ?_
          refine z_iload (pc := 36) gX 4 dX0_copy_36 rfl ?_
          refine z_iload (pc := 38) gX 5 dX0_copy_38 rfl ?_
          refine z_copyN (pc := 40) gX hNP hAX hl ⟨by first | decide | (simp only [zRm]; omega), by first | decide | (simp only [zRm]; omega)⟩ ⟨by first | decide | (simp only [zRm]; omega), by first | decide | (simp only [zRm]; omega)⟩ ⟨q442, q444, q443, q64⟩ (Or.inl ⟨rfl, rfl⟩) dX0_copy_40 ?_
          refine z_xcatch (E := "java/lang/NullPointerException") gX [(17, 49, 50, 113), (17, 49, 58, 123), (17, 49, 66, 125)] htabX [] ⟨17, 49, 50, 113⟩ [⟨17, 49, 58, 123⟩, ⟨17, 49, 66, 125⟩] rfl (fun _ h => absurd h List.not_mem_nil) (by decide) (by decide) q368 (va_any rfl (gX.zk.cast q390)) (fun x_40 hx_40 => ?_)
          refine z_astore (pc := 50) gX [1, 2, 3, 4, 5, 6, 0] [(0, .ref o), (1, .int (nI i)), (2, .int i_), (3, .int (nI i2)), (4, .int j_), (5, .int m), (6, .ref x_40)] dX0_copy_50 (by decide) rfl ?_
          refine z_aload_n (pc := 52) gX 0 dX0_copy_52 rfl rfl ?_
          refine z_iconst (pc := 53) gX 1 dX0_copy_53 (by decide) ?_
          refine z_cMV (pc := 54) gX hAX [.int 1] [] [0] [1, 2] (fun A1 => met_X0_found l D B0 A1 o ad sa sb tr x 1 ) q358 q360 qs3 q47 q361 (zm 0 rfl) (ci := 0) rfl rfl hd_X0_found ⟨rfl, rfl⟩ ⟨(Nat.le_of_ble_eq_true rfl), (Nat.le_of_ble_eq_true rfl)⟩ rfl rfl rfl rfl rfl (Nat.le_of_ble_eq_true rfl) ⟨(Nat.le_of_ble_eq_true rfl), (Nat.le_of_ble_eq_true rfl)⟩ dX0_copy_54 ?_
          intro _ hu54
          refine z_re [0, 1, 2] [cOb o ad (sa 0) (sb 0) tr (upd x 3 1), [(ad 0, .inl (D.1 105, 8, .inr (.inr (.inr (.inr (rF sh 8))))))], slP D sh rw 8] rfl rfl ?_
          refine z_eq (lv₂ := [(0, .ref o), (1, .int (nI i)), (2, .int i_), (3, .int (nI i2)), (4, .int j_), (5, .int m), (6, .ref x_40)]) (st₂ := [.int (-1000010 - 1)]) ?_ rfl rfl
          exact z_rim gX hQX (-1000010 - 1, mSt xm (-1000011), it, rw) (⟨by simp only [mCopy, k4, k11, Bool.and_self, if_true, nI_clamp (show i < 2 ^ 31 by omega), nI_clamp (show i2 < 2 ^ 31 by omega)]; rw [if_pos (Or.inl hsz1)] <;> rfl, hW⟩) rfl (by simp only [mSt_n, pk_us] <;> rfl) (by first | decide | omega) (by first | decide | omega) dX0_copy_57
        · skip
          obtain ⟨hw2, hn2, hsz2, hwd2, hit2⟩ := hW.some (by omega) hrb
          refine z_get (pc := 18) gX (zI_ok gX hAX) (zm 0 rfl) (ci := 0) (C := RX0) (T := TX0) (N := 14) rfl in_X0 0 (by decide) q207 (fun _ h => h) (v := .ref (ad 0)) rfl dX0_copy_18 ?_
          refine z_iload_n (pc := 21) gX 1 dX0_copy_21 rfl rfl ?_
          refine z_ald (pc := 22) gX (zI_ok gX hAX) (j := i) (n := 8) (f := (rF sh 8)) (zm 1 rfl) 5 rfl (by omega) (by decide) (sh i) (rF_lt (by omega)) dX0_copy_22 ?_
          refine z_getN (pc := 23) gX (zI_ok gX hAX) (zpm 2 rfl (slc_memN (by omega) hra)) (ci := 1) (C := RX1) (T := TX1) (N := 1) rfl in_X1 0 (by decide) (zm 1 rfl) (fun _ h => h) (v := .null) rfl dX0_copy_23 ?_
          refine z_iload_n (pc := 26) gX 2 dX0_copy_26 rfl rfl ?_
          refine z_aload_n (pc := 27) gX 0 dX0_copy_27 rfl rfl ?_
          refine z_get (pc := 28) gX (zI_ok gX hAX) (zm 0 rfl) (ci := 0) (C := RX0) (T := TX0) (N := 14) rfl in_X0 0 (by decide) q207 (fun _ h => h) (v := .ref (ad 0)) rfl dX0_copy_28 ?_
          refine z_iload_n (pc := 31) gX 3 dX0_copy_31 rfl rfl ?_
          refine z_ald (pc := 32) gX (zI_ok gX hAX) (j := i2) (n := 8) (f := (rF sh 8)) (zm 1 rfl) 5 rfl (by omega) (by decide) (sh i2) (rF_lt (by omega)) dX0_copy_32 ?_
          refine z_getN (pc := 33) gX (zI_ok gX hAX) (zpm 2 rfl (slc_memS (by omega) hrb)) (ci := 1) (C := RX1) (T := TX1) (N := 1) rfl in_X1 0 (by decide) (zm 1 rfl) (fun _ h => h) (v := .ref b) rfl dX0_copy_33 ?_
          refine z_iload (pc := 36) gX 4 dX0_copy_36 rfl ?_
          refine z_iload (pc := 38) gX 5 dX0_copy_38 rfl ?_
          refine z_copyN (pc := 40) gX hNP hAX hl ⟨by first | decide | (simp only [zRm]; omega), by first | decide | (simp only [zRm]; omega)⟩ ⟨by first | decide | (simp only [zRm]; omega), by first | decide | (simp only [zRm]; omega)⟩ ⟨q442, q444, q443, q64⟩ (Or.inl ⟨rfl, rfl⟩) dX0_copy_40 ?_
          refine z_xcatch (E := "java/lang/NullPointerException") gX [(17, 49, 50, 113), (17, 49, 58, 123), (17, 49, 66, 125)] htabX [] ⟨17, 49, 50, 113⟩ [⟨17, 49, 58, 123⟩, ⟨17, 49, 66, 125⟩] rfl (fun _ h => absurd h List.not_mem_nil) (by decide) (by decide) q368 (va_any rfl (gX.zk.cast q390)) (fun x_40 hx_40 => ?_)
          refine z_astore (pc := 50) gX [1, 2, 3, 4, 5, 6, 0] [(0, .ref o), (1, .int (nI i)), (2, .int i_), (3, .int (nI i2)), (4, .int j_), (5, .int m), (6, .ref x_40)] dX0_copy_50 (by decide) rfl ?_
          refine z_aload_n (pc := 52) gX 0 dX0_copy_52 rfl rfl ?_
          refine z_iconst (pc := 53) gX 1 dX0_copy_53 (by decide) ?_
          refine z_cMV (pc := 54) gX hAX [.int 1] [] [0] [1, 2] (fun A1 => met_X0_found l D B0 A1 o ad sa sb tr x 1 ) q358 q360 qs3 q47 q361 (zm 0 rfl) (ci := 0) rfl rfl hd_X0_found ⟨rfl, rfl⟩ ⟨(Nat.le_of_ble_eq_true rfl), (Nat.le_of_ble_eq_true rfl)⟩ rfl rfl rfl rfl rfl (Nat.le_of_ble_eq_true rfl) ⟨(Nat.le_of_ble_eq_true rfl), (Nat.le_of_ble_eq_true rfl)⟩ dX0_copy_54 ?_
          intro _ hu54
          refine z_re [0, 1, 2] [cOb o ad (sa 0) (sb 0) tr (upd x 3 1), [(ad 0, .inl (D.1 105, 8, .inr (.inr (.inr (.inr (rF sh 8))))))], slP D sh rw 8] rfl rfl ?_
          refine z_eq (lv₂ := [(0, .ref o), (1, .int (nI i)), (2, .int i_), (3, .int (nI i2)), (4, .int j_), (5, .int m), (6, .ref x_40)]) (st₂ := [.int (-1000010 - 1)]) ?_ rfl rfl
          exact z_rim gX hQX (-1000010 - 1, mSt xm (-1000011), it, rw) (⟨by simp only [mCopy, k4, k11, Bool.and_self, if_true, nI_clamp (show i < 2 ^ 31 by omega), nI_clamp (show i2 < 2 ^ 31 by omega)]; rw [if_pos (Or.inl hsz1)] <;> rfl, hW⟩) rfl (by simp only [mSt_n, pk_us] <;> rfl) (by first | decide | omega) (by first | decide | omega) dX0_copy_57
      · skip
        obtain ⟨hw1, hn1, hsz1, hwd1, hit1⟩ := hW.some (by omega) hra
        refine z_aload_n (pc := 17) gX 0 dX0_copy_17 rfl rfl ?_
        rcases hrb : rw i2 with _ | ⟨b, w2, n2, f2⟩
        · skip
          have hsz2 := hW.none (by omega) hrb
          refine z_get (pc := 18) gX (zI_ok gX hAX) (zm 0 rfl) (ci := 0) (C := RX0) (T := TX0) (N := 14) rfl in_X0 0 (by decide) q207 (fun _ h => h) (v := .ref (ad 0)) rfl dX0_copy_18 ?_
          refine z_iload_n (pc := 21) gX 1 dX0_copy_21 rfl rfl ?_
          refine z_ald (pc := 22) gX (zI_ok gX hAX) (j := i) (n := 8) (f := (rF sh 8)) (zm 1 rfl) 5 rfl (by omega) (by decide) (sh i) (rF_lt (by omega)) dX0_copy_22 ?_
          refine z_getN (pc := 23) gX (zI_ok gX hAX) (zpm 2 rfl (slc_memS (by omega) hra)) (ci := 1) (C := RX1) (T := TX1) (N := 1) rfl in_X1 0 (by decide) (zm 1 rfl) (fun _ h => h) (v := .ref a) rfl dX0_copy_23 ?_
          refine z_iload_n (pc := 26) gX 2 dX0_copy_26 rfl rfl ?_
          refine z_aload_n (pc := 27) gX 0 dX0_copy_27 rfl rfl ?_
          refine z_get (pc := 28) gX (zI_ok gX hAX) (zm 0 rfl) (ci := 0) (C := RX0) (T := TX0) (N := 14) rfl in_X0 0 (by decide) q207 (fun _ h => h) (v := .ref (ad 0)) rfl dX0_copy_28 ?_
          refine z_iload_n (pc := 31) gX 3 dX0_copy_31 rfl rfl ?_
          refine z_ald (pc := 32) gX (zI_ok gX hAX) (j := i2) (n := 8) (f := (rF sh 8)) (zm 1 rfl) 5 rfl (by omega) (by decide) (sh i2) (rF_lt (by omega)) dX0_copy_32 ?_
          refine z_getN (pc := 33) gX (zI_ok gX hAX) (zpm 2 rfl (slc_memN (by omega) hrb)) (ci := 1) (C := RX1) (T := TX1) (N := 1) rfl in_X1 0 (by decide) (zm 1 rfl) (fun _ h => h) (v := .null) rfl dX0_copy_33 ?_
          refine z_iload (pc := 36) gX 4 dX0_copy_36 rfl ?_
          refine z_iload (pc := 38) gX 5 dX0_copy_38 rfl ?_
          refine z_copyN (pc := 40) gX hNP hAX hl ⟨by first | decide | (simp only [zRm]; omega), by first | decide | (simp only [zRm]; omega)⟩ ⟨by first | decide | (simp only [zRm]; omega), by first | decide | (simp only [zRm]; omega)⟩ ⟨q442, q444, q443, q64⟩ (Or.inr ⟨⟨_, rfl⟩, rfl⟩) dX0_copy_40 ?_
          refine z_xcatch (E := "java/lang/NullPointerException") gX [(17, 49, 50, 113), (17, 49, 58, 123), (17, 49, 66, 125)] htabX [] ⟨17, 49, 50, 113⟩ [⟨17, 49, 58, 123⟩, ⟨17, 49, 66, 125⟩] rfl (fun _ h => absurd h List.not_mem_nil) (by decide) (by decide) q368 (va_any rfl (gX.zk.cast q390)) (fun x_40 hx_40 => ?_)
          refine z_astore (pc := 50) gX [1, 2, 3, 4, 5, 6, 0] [(0, .ref o), (1, .int (nI i)), (2, .int i_), (3, .int (nI i2)), (4, .int j_), (5, .int m), (6, .ref x_40)] dX0_copy_50 (by decide) rfl ?_
          refine z_aload_n (pc := 52) gX 0 dX0_copy_52 rfl rfl ?_
          refine z_iconst (pc := 53) gX 1 dX0_copy_53 (by decide) ?_
          refine z_cMV (pc := 54) gX hAX [.int 1] [] [0] [1, 2] (fun A1 => met_X0_found l D B0 A1 o ad sa sb tr x 1 ) q358 q360 qs3 q47 q361 (zm 0 rfl) (ci := 0) rfl rfl hd_X0_found ⟨rfl, rfl⟩ ⟨(Nat.le_of_ble_eq_true rfl), (Nat.le_of_ble_eq_true rfl)⟩ rfl rfl rfl rfl rfl (Nat.le_of_ble_eq_true rfl) ⟨(Nat.le_of_ble_eq_true rfl), (Nat.le_of_ble_eq_true rfl)⟩ dX0_copy_54 ?_
          intro _ hu54
          refine z_re [0, 1, 2] [cOb o ad (sa 0) (sb 0) tr (upd x 3 1), [(ad 0, .inl (D.1 105, 8, .inr (.inr (.inr (.inr (rF sh 8))))))], slP D sh rw 8] rfl rfl ?_
          refine z_eq (lv₂ := [(0, .ref o), (1, .int (nI i)), (2, .int i_), (3, .int (nI i2)), (4, .int j_), (5, .int m), (6, .ref x_40)]) (st₂ := [.int (-1000010 - 1)]) ?_ rfl rfl
          exact z_rim gX hQX (-1000010 - 1, mSt xm (-1000011), it, rw) (⟨by simp only [mCopy, k4, k11, Bool.and_self, if_true, nI_clamp (show i < 2 ^ 31 by omega), nI_clamp (show i2 < 2 ^ 31 by omega)]; rw [if_pos (Or.inr hsz2)] <;> rfl, hW⟩) rfl (by simp only [mSt_n, pk_us] <;> rfl) (by first | decide | omega) (by first | decide | omega) dX0_copy_57
        · skip
          obtain ⟨hw2, hn2, hsz2, hwd2, hit2⟩ := hW.some (by omega) hrb
          refine z_get (pc := 18) gX (zI_ok gX hAX) (zm 0 rfl) (ci := 0) (C := RX0) (T := TX0) (N := 14) rfl in_X0 0 (by decide) q207 (fun _ h => h) (v := .ref (ad 0)) rfl dX0_copy_18 ?_
          by_cases hw : w1 = w2
          · skip
            subst hw
            refine z_iload_n (pc := 21) gX 1 dX0_copy_21 rfl rfl ?_
            rcases (show w1 = 0 ∨ w1 = 1 ∨ w1 = 2 by omega) with rfl | rfl | rfl
            · skip
              refine z_ald (pc := 22) gX (zI_ok gX hAX) (j := i) (n := 8) (f := (rF sh 8)) (zm 1 rfl) 5 rfl (by omega) (by decide) (sh i) (rF_lt (by omega)) dX0_copy_22 ?_
              rcases lies2 (i := i_) (j := j_) (n := m) hn1 hn2 with ⟨sp, dp, mm, hs, hd, rfl, rfl, rfl, hlie⟩ | hlie
              · skip
                refine z_getN (pc := 23) gX (zI_ok gX hAX) (zpm 2 rfl (slc_memS (by omega) hra)) (ci := 1) (C := RX1) (T := TX1) (N := 1) rfl in_X1 0 (by decide) (zm 1 rfl) (fun _ h => h) (v := .ref a) rfl dX0_copy_23 ?_
                refine z_iload_n (pc := 26) gX 2 dX0_copy_26 rfl rfl ?_
                refine z_aload_n (pc := 27) gX 0 dX0_copy_27 rfl rfl ?_
                refine z_get (pc := 28) gX (zI_ok gX hAX) (zm 0 rfl) (ci := 0) (C := RX0) (T := TX0) (N := 14) rfl in_X0 0 (by decide) q207 (fun _ h => h) (v := .ref (ad 0)) rfl dX0_copy_28 ?_
                refine z_iload_n (pc := 31) gX 3 dX0_copy_31 rfl rfl ?_
                refine z_ald (pc := 32) gX (zI_ok gX hAX) (j := i2) (n := 8) (f := (rF sh 8)) (zm 1 rfl) 5 rfl (by omega) (by decide) (sh i2) (rF_lt (by omega)) dX0_copy_32 ?_
                refine z_getN (pc := 33) gX (zI_ok gX hAX) (zpm 2 rfl (slc_memS (by omega) hrb)) (ci := 1) (C := RX1) (T := TX1) (N := 1) rfl in_X1 0 (by decide) (zm 1 rfl) (fun _ h => h) (v := .ref b) rfl dX0_copy_33 ?_
                by_cases hii : i = i2
                · skip
                  subst hii
                  obtain ⟨rfl, rfl, rfl⟩ : a = b ∧ n1 = n2 ∧ f1 = f2 := by rw [hra] at hrb; cases hrb; exact ⟨rfl, rfl, rfl⟩
                  refine z_ws [cOb o ad (sa 0) (sb 0) tr x, [(ad 0, .inl (D.1 105, 8, .inr (.inr (.inr (.inr (rF sh 8))))))], [(sh i, .inr (1, [.ref a]))], [(a, .inl (D.1 101, n1, .inl f1))], slR D sh rw i] (sg_perm [[(sh i, .inr (1, [.ref a]))], [(a, .inl (D.1 101, n1, .inl f1))], slR D sh rw i] 2 rfl rfl (sl_os (D := D) (sh := sh) (rw := rw) (i := i) (w := 0) (by omega) hra)) ?_
                  refine z_iload (pc := 36) gX 4 dX0_copy_36 rfl ?_
                  refine z_iload (pc := 38) gX 5 dX0_copy_38 rfl ?_
                  refine z_eq (lv₂ := [(0, .ref o), (1, .int (nI i)), (2, .int (nI sp)), (3, .int (nI i)), (4, .int (nI dp)), (5, .int (nI mm))]) (st₂ := .int (nI mm) :: .int (nI dp) :: .ref a :: .int (nI sp) :: .ref a :: []) ?_ rfl rfl
                  refine z_copyi2 (pc := 40) gX hAX ⟨q442, q444, q443, q64⟩ 3 1 (c0 := D.1 101) (zm 3 rfl) rfl rfl rfl ⟨by omega, by omega, by omega⟩ (by omega) (by omega) (fun z hz => fit_b (by have h9 := hN i (by omega) n1 hsz1 hn1 (sp + z) (by omega); rw [hwd1] at h9; rw [hit1 _ (by omega)]; exact h9)) (by decide) (by decide) [cOb o ad (sa 0) (sb 0) tr x, [(ad 0, .inl (D.1 105, 8, .inr (.inr (.inr (.inr (rF sh 8))))))], [(sh i, .inr (1, [.ref a]))], [(a, .inl (D.1 101, n1, .inl (va_cpy f1 f1 sp dp mm)))], slR D sh rw i] rfl dX0_copy_40 ?_
                  refine z_ws [cOb o ad (sa 0) (sb 0) tr x, [(ad 0, .inl (D.1 105, 8, .inr (.inr (.inr (.inr (rF sh 8))))))], slP D sh (setR rw i (some (a, 0, n1, va_cpy f1 f1 sp dp mm))) 8] (gs_perm (slP D sh (setR rw i (some (a, 0, n1, va_cpy f1 f1 sp dp mm))) 8) 2 3 rfl (sl_cs (D := D) (sh := sh) (rw := rw) (i := i) (a := a) (w := 0) (n := n1) (f := va_cpy f1 f1 sp dp mm) (by omega))) ?_
                  refine z_aload_n (pc := 43) gX 0 dX0_copy_43 rfl rfl ?_
                  refine z_iload (pc := 44) gX 5 dX0_copy_44 rfl ?_
                  refine z_cMV (pc := 46) gX hAX [.int (nI mm)] [] [0] [1, 2] (fun A1 => met_X0_well l D B0 A1 o ad sa sb tr x (nI mm) ) q354 q356 qs2 q47 q357 (zm 0 rfl) (ci := 0) rfl rfl hd_X0_well ⟨rfl, rfl⟩ ⟨(Nat.le_of_ble_eq_true rfl), (Nat.le_of_ble_eq_true rfl)⟩ rfl rfl rfl rfl rfl (Nat.le_of_ble_eq_true rfl) ⟨(Nat.le_of_ble_eq_true rfl), (Nat.le_of_ble_eq_true rfl)⟩ dX0_copy_46 ?_
                  intro _ hu46
                  refine z_re [0, 1, 2] [cOb o ad (sa 0) (sb 0) tr (upd x 3 0), [(ad 0, .inl (D.1 105, 8, .inr (.inr (.inr (.inr (rF sh 8))))))], slP D sh (setR rw i (some (a, 0, n1, va_cpy f1 f1 sp dp mm))) 8] rfl rfl ?_
                  refine z_eq (lv₂ := [(0, .ref o), (1, .int (nI i)), (2, .int (nI sp)), (3, .int (nI i)), (4, .int (nI dp)), (5, .int (nI mm))]) (st₂ := [.int (nI mm)]) ?_ rfl rfl
                  exact z_rim gX hQX (nI mm, mSt xm (nI mm), cpT it (40 * i + dp) (fun z => it (40 * i + sp + z)) mm, setR rw i (some (a, 0, n1, va_cpy f1 f1 sp dp mm))) (⟨by simp only [mCopy, k4, k11, Bool.and_self, if_true, nI_clamp (show i < 2 ^ 31 by omega), hsz1, hwd1, hlie, nI_clamp (show sp < 2 ^ 31 by omega), nI_clamp (show dp < 2 ^ 31 by omega), nI_clamp (show mm < 2 ^ 31 by omega)]; rw [if_neg (by intro z; rcases z with z | z <;> exact nI_pos (by omega) z)], hW.copy (by omega) (by omega) hra hra hs hd⟩) rfl (by simp only [mSt_0 (show mm ≤ 40 by omega), pk_us]) (by first | decide | omega) (by first | decide | omega) dX0_copy_49
                · skip
                  refine z_ws [cOb o ad (sa 0) (sb 0) tr x, [(ad 0, .inl (D.1 105, 8, .inr (.inr (.inr (.inr (rF sh 8))))))], [(sh i2, .inr (1, [.ref b]))], [(b, .inl (D.1 101, n2, .inl f2))], slR D sh rw i2] (sg_perm [[(sh i2, .inr (1, [.ref b]))], [(b, .inl (D.1 101, n2, .inl f2))], slR D sh rw i2] 2 rfl rfl (sl_os (D := D) (sh := sh) (rw := rw) (i := i2) (w := 0) (by omega) hrb)) ?_
                  refine z_iload (pc := 36) gX 4 dX0_copy_36 rfl ?_
                  refine z_iload (pc := 38) gX 5 dX0_copy_38 rfl ?_
                  refine z_eq (lv₂ := [(0, .ref o), (1, .int (nI i)), (2, .int (nI sp)), (3, .int (nI i2)), (4, .int (nI dp)), (5, .int (nI mm))]) (st₂ := .int (nI mm) :: .int (nI dp) :: .ref b :: .int (nI sp) :: .ref a :: []) ?_ rfl rfl
                  refine z_copyi2 (pc := 40) gX hAX ⟨q442, q444, q443, q64⟩ 3 1 (c0 := D.1 101) (zpm 4 rfl (slR_memA (by omega) (by omega) hii hra)) rfl rfl rfl ⟨by omega, by omega, by omega⟩ (by omega) (by omega) (fun z hz => fit_b (by have h9 := hN i (by omega) n1 hsz1 hn1 (sp + z) (by omega); rw [hwd1] at h9; rw [hit1 _ (by omega)]; exact h9)) (by decide) (by decide) [cOb o ad (sa 0) (sb 0) tr x, [(ad 0, .inl (D.1 105, 8, .inr (.inr (.inr (.inr (rF sh 8))))))], [(sh i2, .inr (1, [.ref b]))], [(b, .inl (D.1 101, n2, .inl (va_cpy f1 f2 sp dp mm)))], slR D sh rw i2] rfl dX0_copy_40 ?_
                  refine z_ws [cOb o ad (sa 0) (sb 0) tr x, [(ad 0, .inl (D.1 105, 8, .inr (.inr (.inr (.inr (rF sh 8))))))], slP D sh (setR rw i2 (some (b, 0, n2, va_cpy f1 f2 sp dp mm))) 8] (gs_perm (slP D sh (setR rw i2 (some (b, 0, n2, va_cpy f1 f2 sp dp mm))) 8) 2 3 rfl (sl_cs (D := D) (sh := sh) (rw := rw) (i := i2) (a := b) (w := 0) (n := n2) (f := va_cpy f1 f2 sp dp mm) (by omega))) ?_
                  refine z_aload_n (pc := 43) gX 0 dX0_copy_43 rfl rfl ?_
                  refine z_iload (pc := 44) gX 5 dX0_copy_44 rfl ?_
                  refine z_cMV (pc := 46) gX hAX [.int (nI mm)] [] [0] [1, 2] (fun A1 => met_X0_well l D B0 A1 o ad sa sb tr x (nI mm) ) q354 q356 qs2 q47 q357 (zm 0 rfl) (ci := 0) rfl rfl hd_X0_well ⟨rfl, rfl⟩ ⟨(Nat.le_of_ble_eq_true rfl), (Nat.le_of_ble_eq_true rfl)⟩ rfl rfl rfl rfl rfl (Nat.le_of_ble_eq_true rfl) ⟨(Nat.le_of_ble_eq_true rfl), (Nat.le_of_ble_eq_true rfl)⟩ dX0_copy_46 ?_
                  intro _ hu46
                  refine z_re [0, 1, 2] [cOb o ad (sa 0) (sb 0) tr (upd x 3 0), [(ad 0, .inl (D.1 105, 8, .inr (.inr (.inr (.inr (rF sh 8))))))], slP D sh (setR rw i2 (some (b, 0, n2, va_cpy f1 f2 sp dp mm))) 8] rfl rfl ?_
                  refine z_eq (lv₂ := [(0, .ref o), (1, .int (nI i)), (2, .int (nI sp)), (3, .int (nI i2)), (4, .int (nI dp)), (5, .int (nI mm))]) (st₂ := [.int (nI mm)]) ?_ rfl rfl
                  exact z_rim gX hQX (nI mm, mSt xm (nI mm), cpT it (40 * i2 + dp) (fun z => it (40 * i + sp + z)) mm, setR rw i2 (some (b, 0, n2, va_cpy f1 f2 sp dp mm))) (⟨by simp only [mCopy, k4, k11, Bool.and_self, if_true, nI_clamp (show i < 2 ^ 31 by omega), nI_clamp (show i2 < 2 ^ 31 by omega), hsz1, hsz2, hwd1, hwd2, hlie, nI_clamp (show sp < 2 ^ 31 by omega), nI_clamp (show dp < 2 ^ 31 by omega), nI_clamp (show mm < 2 ^ 31 by omega)]; rw [if_neg (by intro z; rcases z with z | z <;> exact nI_pos (by omega) z)], hW.copy (by omega) (by omega) hra hrb hs hd⟩) rfl (by simp only [mSt_0 (show mm ≤ 40 by omega), pk_us]) (by first | decide | omega) (by first | decide | omega) dX0_copy_49
              · skip
                refine z_getN (pc := 23) gX (zI_ok gX hAX) (zpm 2 rfl (slc_memS (by omega) hra)) (ci := 1) (C := RX1) (T := TX1) (N := 1) rfl in_X1 0 (by decide) (zm 1 rfl) (fun _ h => h) (v := .ref a) rfl dX0_copy_23 ?_
                refine z_iload_n (pc := 26) gX 2 dX0_copy_26 rfl rfl ?_
                refine z_aload_n (pc := 27) gX 0 dX0_copy_27 rfl rfl ?_
                refine z_get (pc := 28) gX (zI_ok gX hAX) (zm 0 rfl) (ci := 0) (C := RX0) (T := TX0) (N := 14) rfl in_X0 0 (by decide) q207 (fun _ h => h) (v := .ref (ad 0)) rfl dX0_copy_28 ?_
                refine z_iload_n (pc := 31) gX 3 dX0_copy_31 rfl rfl ?_
                refine z_ald (pc := 32) gX (zI_ok gX hAX) (j := i2) (n := 8) (f := (rF sh 8)) (zm 1 rfl) 5 rfl (by omega) (by decide) (sh i2) (rF_lt (by omega)) dX0_copy_32 ?_
                refine z_getN (pc := 33) gX (zI_ok gX hAX) (zpm 2 rfl (slc_memS (by omega) hrb)) (ci := 1) (C := RX1) (T := TX1) (N := 1) rfl in_X1 0 (by decide) (zm 1 rfl) (fun _ h => h) (v := .ref b) rfl dX0_copy_33 ?_
                refine z_iload (pc := 36) gX 4 dX0_copy_36 rfl ?_
                refine z_iload (pc := 38) gX 5 dX0_copy_38 rfl ?_
                refine z_copyB (pc := 40) gX hAX hl ⟨by first | decide | (simp only [zRm]; omega), by first | decide | (simp only [zRm]; omega)⟩ ⟨by first | decide | (simp only [zRm]; omega), by first | decide | (simp only [zRm]; omega)⟩ ⟨q442, q444, q443, q64⟩ 1 1 (c0 := D.1 101) (c1 := D.1 101) (sT := .byte) (dT := .byte) (zpm 2 rfl (slc_memA (by omega) hra)) (zpm 2 rfl (slc_memA (by omega) hrb)) rfl rfl (by decide) ⟨hn1, hn2⟩ hlie dX0_copy_40 ?_
                refine z_xcatch (E := "java/lang/ArrayIndexOutOfBoundsException") gX [(17, 49, 50, 113), (17, 49, 58, 123), (17, 49, 66, 125)] htabX [⟨17, 49, 50, 113⟩, ⟨17, 49, 58, 123⟩] ⟨17, 49, 66, 125⟩ [] rfl (List.forall_mem_cons.mpr ⟨Or.inr ⟨by decide, "java/lang/NullPointerException", gX.ts _ q368, gX.zk.nc (fun _ _ h => flat_of_before _ h _ (by decide +kernel))⟩, List.forall_mem_cons.mpr ⟨Or.inr ⟨by decide, "java/lang/ArrayStoreException", gX.ts _ q427, gX.zk.nc (fun _ _ h => flat_of_before _ h _ (by decide +kernel))⟩, fun _ h => absurd h List.not_mem_nil⟩⟩) (by decide) (by decide) q441 (va_any rfl (gX.zk.cast q1711)) (fun x_40 hx_40 => ?_)
                refine z_astore (pc := 66) gX [1, 2, 3, 4, 5, 6, 0] [(0, .ref o), (1, .int (nI i)), (2, .int i_), (3, .int (nI i2)), (4, .int j_), (5, .int m), (6, .ref x_40)] dX0_copy_66 (by decide) rfl ?_
                refine z_aload_n (pc := 68) gX 0 dX0_copy_68 rfl rfl ?_
                refine z_iconst (pc := 69) gX 2 dX0_copy_69 (by decide) ?_
                refine z_cMV (pc := 70) gX hAX [.int 2] [] [0] [1, 2] (fun A1 => met_X0_found l D B0 A1 o ad sa sb tr x 2 ) q358 q360 qs3 q47 q361 (zm 0 rfl) (ci := 0) rfl rfl hd_X0_found ⟨rfl, rfl⟩ ⟨(Nat.le_of_ble_eq_true rfl), (Nat.le_of_ble_eq_true rfl)⟩ rfl rfl rfl rfl rfl (Nat.le_of_ble_eq_true rfl) ⟨(Nat.le_of_ble_eq_true rfl), (Nat.le_of_ble_eq_true rfl)⟩ dX0_copy_70 ?_
                intro _ hu70
                refine z_re [0, 1, 2] [cOb o ad (sa 0) (sb 0) tr (upd x 3 2), [(ad 0, .inl (D.1 105, 8, .inr (.inr (.inr (.inr (rF sh 8))))))], slP D sh rw 8] rfl rfl ?_
                refine z_eq (lv₂ := [(0, .ref o), (1, .int (nI i)), (2, .int i_), (3, .int (nI i2)), (4, .int j_), (5, .int m), (6, .ref x_40)]) (st₂ := [.int (-1000010 - 2)]) ?_ rfl rfl
                exact z_rim gX hQX (-1000010 - 2, mSt xm (-1000012), it, rw) (⟨by simp only [mCopy, k4, k11, Bool.and_self, if_true, nI_clamp (show i < 2 ^ 31 by omega), nI_clamp (show i2 < 2 ^ 31 by omega), hsz1, hsz2, hwd1, hwd2, hlie]; rw [if_neg (by intro z; rcases z with z | z <;> exact nI_pos (by omega) z), if_neg (by decide)] <;> rfl, hW⟩) rfl (by simp only [mSt_p, pk_us] <;> rfl) (by first | decide | omega) (by first | decide | omega) dX0_copy_73
            · skip
              refine z_ald (pc := 22) gX (zI_ok gX hAX) (j := i) (n := 8) (f := (rF sh 8)) (zm 1 rfl) 5 rfl (by omega) (by decide) (sh i) (rF_lt (by omega)) dX0_copy_22 ?_
              rcases lies2 (i := i_) (j := j_) (n := m) hn1 hn2 with ⟨sp, dp, mm, hs, hd, rfl, rfl, rfl, hlie⟩ | hlie
              · skip
                refine z_getN (pc := 23) gX (zI_ok gX hAX) (zpm 2 rfl (slc_memS (by omega) hra)) (ci := 1) (C := RX1) (T := TX1) (N := 1) rfl in_X1 0 (by decide) (zm 1 rfl) (fun _ h => h) (v := .ref a) rfl dX0_copy_23 ?_
                refine z_iload_n (pc := 26) gX 2 dX0_copy_26 rfl rfl ?_
                refine z_aload_n (pc := 27) gX 0 dX0_copy_27 rfl rfl ?_
                refine z_get (pc := 28) gX (zI_ok gX hAX) (zm 0 rfl) (ci := 0) (C := RX0) (T := TX0) (N := 14) rfl in_X0 0 (by decide) q207 (fun _ h => h) (v := .ref (ad 0)) rfl dX0_copy_28 ?_
                refine z_iload_n (pc := 31) gX 3 dX0_copy_31 rfl rfl ?_
                refine z_ald (pc := 32) gX (zI_ok gX hAX) (j := i2) (n := 8) (f := (rF sh 8)) (zm 1 rfl) 5 rfl (by omega) (by decide) (sh i2) (rF_lt (by omega)) dX0_copy_32 ?_
                refine z_getN (pc := 33) gX (zI_ok gX hAX) (zpm 2 rfl (slc_memS (by omega) hrb)) (ci := 1) (C := RX1) (T := TX1) (N := 1) rfl in_X1 0 (by decide) (zm 1 rfl) (fun _ h => h) (v := .ref b) rfl dX0_copy_33 ?_
                by_cases hii : i = i2
                · skip
                  subst hii
                  obtain ⟨rfl, rfl, rfl⟩ : a = b ∧ n1 = n2 ∧ f1 = f2 := by rw [hra] at hrb; cases hrb; exact ⟨rfl, rfl, rfl⟩
                  refine z_ws [cOb o ad (sa 0) (sb 0) tr x, [(ad 0, .inl (D.1 105, 8, .inr (.inr (.inr (.inr (rF sh 8))))))], [(sh i, .inr (1, [.ref a]))], [(a, .inl (D.1 102, n1, .inl f1))], slR D sh rw i] (sg_perm [[(sh i, .inr (1, [.ref a]))], [(a, .inl (D.1 102, n1, .inl f1))], slR D sh rw i] 2 rfl rfl (sl_os (D := D) (sh := sh) (rw := rw) (i := i) (w := 1) (by omega) hra)) ?_
                  refine z_iload (pc := 36) gX 4 dX0_copy_36 rfl ?_
                  refine z_iload (pc := 38) gX 5 dX0_copy_38 rfl ?_
                  refine z_eq (lv₂ := [(0, .ref o), (1, .int (nI i)), (2, .int (nI sp)), (3, .int (nI i)), (4, .int (nI dp)), (5, .int (nI mm))]) (st₂ := .int (nI mm) :: .int (nI dp) :: .ref a :: .int (nI sp) :: .ref a :: []) ?_ rfl rfl
                  refine z_copyi2 (pc := 40) gX hAX ⟨q442, q444, q443, q64⟩ 3 2 (c0 := D.1 102) (zm 3 rfl) rfl rfl rfl ⟨by omega, by omega, by omega⟩ (by omega) (by omega) (fun z hz => fit_s (by have h9 := hN i (by omega) n1 hsz1 hn1 (sp + z) (by omega); rw [hwd1] at h9; rw [hit1 _ (by omega)]; exact h9)) (by decide) (by decide) [cOb o ad (sa 0) (sb 0) tr x, [(ad 0, .inl (D.1 105, 8, .inr (.inr (.inr (.inr (rF sh 8))))))], [(sh i, .inr (1, [.ref a]))], [(a, .inl (D.1 102, n1, .inl (va_cpy f1 f1 sp dp mm)))], slR D sh rw i] rfl dX0_copy_40 ?_
                  refine z_ws [cOb o ad (sa 0) (sb 0) tr x, [(ad 0, .inl (D.1 105, 8, .inr (.inr (.inr (.inr (rF sh 8))))))], slP D sh (setR rw i (some (a, 1, n1, va_cpy f1 f1 sp dp mm))) 8] (gs_perm (slP D sh (setR rw i (some (a, 1, n1, va_cpy f1 f1 sp dp mm))) 8) 2 3 rfl (sl_cs (D := D) (sh := sh) (rw := rw) (i := i) (a := a) (w := 1) (n := n1) (f := va_cpy f1 f1 sp dp mm) (by omega))) ?_
                  refine z_aload_n (pc := 43) gX 0 dX0_copy_43 rfl rfl ?_
                  refine z_iload (pc := 44) gX 5 dX0_copy_44 rfl ?_
                  refine z_cMV (pc := 46) gX hAX [.int (nI mm)] [] [0] [1, 2] (fun A1 => met_X0_well l D B0 A1 o ad sa sb tr x (nI mm) ) q354 q356 qs2 q47 q357 (zm 0 rfl) (ci := 0) rfl rfl hd_X0_well ⟨rfl, rfl⟩ ⟨(Nat.le_of_ble_eq_true rfl), (Nat.le_of_ble_eq_true rfl)⟩ rfl rfl rfl rfl rfl (Nat.le_of_ble_eq_true rfl) ⟨(Nat.le_of_ble_eq_true rfl), (Nat.le_of_ble_eq_true rfl)⟩ dX0_copy_46 ?_
                  intro _ hu46
                  refine z_re [0, 1, 2] [cOb o ad (sa 0) (sb 0) tr (upd x 3 0), [(ad 0, .inl (D.1 105, 8, .inr (.inr (.inr (.inr (rF sh 8))))))], slP D sh (setR rw i (some (a, 1, n1, va_cpy f1 f1 sp dp mm))) 8] rfl rfl ?_
                  refine z_eq (lv₂ := [(0, .ref o), (1, .int (nI i)), (2, .int (nI sp)), (3, .int (nI i)), (4, .int (nI dp)), (5, .int (nI mm))]) (st₂ := [.int (nI mm)]) ?_ rfl rfl
                  exact z_rim gX hQX (nI mm, mSt xm (nI mm), cpT it (40 * i + dp) (fun z => it (40 * i + sp + z)) mm, setR rw i (some (a, 1, n1, va_cpy f1 f1 sp dp mm))) (⟨by simp only [mCopy, k4, k11, Bool.and_self, if_true, nI_clamp (show i < 2 ^ 31 by omega), hsz1, hwd1, hlie, nI_clamp (show sp < 2 ^ 31 by omega), nI_clamp (show dp < 2 ^ 31 by omega), nI_clamp (show mm < 2 ^ 31 by omega)]; rw [if_neg (by intro z; rcases z with z | z <;> exact nI_pos (by omega) z)], hW.copy (by omega) (by omega) hra hra hs hd⟩) rfl (by simp only [mSt_0 (show mm ≤ 40 by omega), pk_us]) (by first | decide | omega) (by first | decide | omega) dX0_copy_49
                · skip
                  refine z_ws [cOb o ad (sa 0) (sb 0) tr x, [(ad 0, .inl (D.1 105, 8, .inr (.inr (.inr (.inr (rF sh 8))))))], [(sh i2, .inr (1, [.ref b]))], [(b, .inl (D.1 102, n2, .inl f2))], slR D sh rw i2] (sg_perm [[(sh i2, .inr (1, [.ref b]))], [(b, .inl (D.1 102, n2, .inl f2))], slR D sh rw i2] 2 rfl rfl (sl_os (D := D) (sh := sh) (rw := rw) (i := i2) (w := 1) (by omega) hrb)) ?_
                  refine z_iload (pc := 36) gX 4 dX0_copy_36 rfl ?_
                  refine z_iload (pc := 38) gX 5 dX0_copy_38 rfl ?_
                  refine z_eq (lv₂ := [(0, .ref o), (1, .int (nI i)), (2, .int (nI sp)), (3, .int (nI i2)), (4, .int (nI dp)), (5, .int (nI mm))]) (st₂ := .int (nI mm) :: .int (nI dp) :: .ref b :: .int (nI sp) :: .ref a :: []) ?_ rfl rfl
                  refine z_copyi2 (pc := 40) gX hAX ⟨q442, q444, q443, q64⟩ 3 2 (c0 := D.1 102) (zpm 4 rfl (slR_memA (by omega) (by omega) hii hra)) rfl rfl rfl ⟨by omega, by omega, by omega⟩ (by omega) (by omega) (fun z hz => fit_s (by have h9 := hN i (by omega) n1 hsz1 hn1 (sp + z) (by omega); rw [hwd1] at h9; rw [hit1 _ (by omega)]; exact h9)) (by decide) (by decide) [cOb o ad (sa 0) (sb 0) tr x, [(ad 0, .inl (D.1 105, 8, .inr (.inr (.inr (.inr (rF sh 8))))))], [(sh i2, .inr (1, [.ref b]))], [(b, .inl (D.1 102, n2, .inl (va_cpy f1 f2 sp dp mm)))], slR D sh rw i2] rfl dX0_copy_40 ?_
                  refine z_ws [cOb o ad (sa 0) (sb 0) tr x, [(ad 0, .inl (D.1 105, 8, .inr (.inr (.inr (.inr (rF sh 8))))))], slP D sh (setR rw i2 (some (b, 1, n2, va_cpy f1 f2 sp dp mm))) 8] (gs_perm (slP D sh (setR rw i2 (some (b, 1, n2, va_cpy f1 f2 sp dp mm))) 8) 2 3 rfl (sl_cs (D := D) (sh := sh) (rw := rw) (i := i2) (a := b) (w := 1) (n := n2) (f := va_cpy f1 f2 sp dp mm) (by omega))) ?_
                  refine z_aload_n (pc := 43) gX 0 dX0_copy_43 rfl rfl ?_
                  refine z_iload (pc := 44) gX 5 dX0_copy_44 rfl ?_
                  refine z_cMV (pc := 46) gX hAX [.int (nI mm)] [] [0] [1, 2] (fun A1 => met_X0_well l D B0 A1 o ad sa sb tr x (nI mm) ) q354 q356 qs2 q47 q357 (zm 0 rfl) (ci := 0) rfl rfl hd_X0_well ⟨rfl, rfl⟩ ⟨(Nat.le_of_ble_eq_true rfl), (Nat.le_of_ble_eq_true rfl)⟩ rfl rfl rfl rfl rfl (Nat.le_of_ble_eq_true rfl) ⟨(Nat.le_of_ble_eq_true rfl), (Nat.le_of_ble_eq_true rfl)⟩ dX0_copy_46 ?_
                  intro _ hu46
                  refine z_re [0, 1, 2] [cOb o ad (sa 0) (sb 0) tr (upd x 3 0), [(ad 0, .inl (D.1 105, 8, .inr (.inr (.inr (.inr (rF sh 8))))))], slP D sh (setR rw i2 (some (b, 1, n2, va_cpy f1 f2 sp dp mm))) 8] rfl rfl ?_
                  refine z_eq (lv₂ := [(0, .ref o), (1, .int (nI i)), (2, .int (nI sp)), (3, .int (nI i2)), (4, .int (nI dp)), (5, .int (nI mm))]) (st₂ := [.int (nI mm)]) ?_ rfl rfl
                  exact z_rim gX hQX (nI mm, mSt xm (nI mm), cpT it (40 * i2 + dp) (fun z => it (40 * i + sp + z)) mm, setR rw i2 (some (b, 1, n2, va_cpy f1 f2 sp dp mm))) (⟨by simp only [mCopy, k4, k11, Bool.and_self, if_true, nI_clamp (show i < 2 ^ 31 by omega), nI_clamp (show i2 < 2 ^ 31 by omega), hsz1, hsz2, hwd1, hwd2, hlie, nI_clamp (show sp < 2 ^ 31 by omega), nI_clamp (show dp < 2 ^ 31 by omega), nI_clamp (show mm < 2 ^ 31 by omega)]; rw [if_neg (by intro z; rcases z with z | z <;> exact nI_pos (by omega) z)], hW.copy (by omega) (by omega) hra hrb hs hd⟩) rfl (by simp only [mSt_0 (show mm ≤ 40 by omega), pk_us]) (by first | decide | omega) (by first | decide | omega) dX0_copy_49
              · skip
                refine z_getN (pc := 23) gX (zI_ok gX hAX) (zpm 2 rfl (slc_memS (by omega) hra)) (ci := 1) (C := RX1) (T := TX1) (N := 1) rfl in_X1 0 (by decide) (zm 1 rfl) (fun _ h => h) (v := .ref a) rfl dX0_copy_23 ?_
                refine z_iload_n (pc := 26) gX 2 dX0_copy_26 rfl rfl ?_
                refine z_aload_n (pc := 27) gX 0 dX0_copy_27 rfl rfl ?_
                refine z_get (pc := 28) gX (zI_ok gX hAX) (zm 0 rfl) (ci := 0) (C := RX0) (T := TX0) (N := 14) rfl in_X0 0 (by decide) q207 (fun _ h => h) (v := .ref (ad 0)) rfl dX0_copy_28 ?_
                refine z_iload_n (pc := 31) gX 3 dX0_copy_31 rfl rfl ?_
                refine z_ald (pc := 32) gX (zI_ok gX hAX) (j := i2) (n := 8) (f := (rF sh 8)) (zm 1 rfl) 5 rfl (by omega) (by decide) (sh i2) (rF_lt (by omega)) dX0_copy_32 ?_
                refine z_getN (pc := 33) gX (zI_ok gX hAX) (zpm 2 rfl (slc_memS (by omega) hrb)) (ci := 1) (C := RX1) (T := TX1) (N := 1) rfl in_X1 0 (by decide) (zm 1 rfl) (fun _ h => h) (v := .ref b) rfl dX0_copy_33 ?_
                refine z_iload (pc := 36) gX 4 dX0_copy_36 rfl ?_
                refine z_iload (pc := 38) gX 5 dX0_copy_38 rfl ?_
                refine z_copyB (pc := 40) gX hAX hl ⟨by first | decide | (simp only [zRm]; omega), by first | decide | (simp only [zRm]; omega)⟩ ⟨by first | decide | (simp only [zRm]; omega), by first | decide | (simp only [zRm]; omega)⟩ ⟨q442, q444, q443, q64⟩ 2 2 (c0 := D.1 102) (c1 := D.1 102) (sT := .short) (dT := .short) (zpm 2 rfl (slc_memA (by omega) hra)) (zpm 2 rfl (slc_memA (by omega) hrb)) rfl rfl (by decide) ⟨hn1, hn2⟩ hlie dX0_copy_40 ?_
                refine z_xcatch (E := "java/lang/ArrayIndexOutOfBoundsException") gX [(17, 49, 50, 113), (17, 49, 58, 123), (17, 49, 66, 125)] htabX [⟨17, 49, 50, 113⟩, ⟨17, 49, 58, 123⟩] ⟨17, 49, 66, 125⟩ [] rfl (List.forall_mem_cons.mpr ⟨Or.inr ⟨by decide, "java/lang/NullPointerException", gX.ts _ q368, gX.zk.nc (fun _ _ h => flat_of_before _ h _ (by decide +kernel))⟩, List.forall_mem_cons.mpr ⟨Or.inr ⟨by decide, "java/lang/ArrayStoreException", gX.ts _ q427, gX.zk.nc (fun _ _ h => flat_of_before _ h _ (by decide +kernel))⟩, fun _ h => absurd h List.not_mem_nil⟩⟩) (by decide) (by decide) q441 (va_any rfl (gX.zk.cast q1711)) (fun x_40 hx_40 => ?_)
                refine z_astore (pc := 66) gX [1, 2, 3, 4, 5, 6, 0] [(0, .ref o), (1, .int (nI i)), (2, .int i_), (3, .int (nI i2)), (4, .int j_), (5, .int m), (6, .ref x_40)] dX0_copy_66 (by decide) rfl ?_
                refine z_aload_n (pc := 68) gX 0 dX0_copy_68 rfl rfl ?_
                refine z_iconst (pc := 69) gX 2 dX0_copy_69 (by decide) ?_
                refine z_cMV (pc := 70) gX hAX [.int 2] [] [0] [1, 2] (fun A1 => met_X0_found l D B0 A1 o ad sa sb tr x 2 ) q358 q360 qs3 q47 q361 (zm 0 rfl) (ci := 0) rfl rfl hd_X0_found ⟨rfl, rfl⟩ ⟨(Nat.le_of_ble_eq_true rfl), (Nat.le_of_ble_eq_true rfl)⟩ rfl rfl rfl rfl rfl (Nat.le_of_ble_eq_true rfl) ⟨(Nat.le_of_ble_eq_true rfl), (Nat.le_of_ble_eq_true rfl)⟩ dX0_copy_70 ?_
                intro _ hu70
                refine z_re [0, 1, 2] [cOb o ad (sa 0) (sb 0) tr (upd x 3 2), [(ad 0, .inl (D.1 105, 8, .inr (.inr (.inr (.inr (rF sh 8))))))], slP D sh rw 8] rfl rfl ?_
                refine z_eq (lv₂ := [(0, .ref o), (1, .int (nI i)), (2, .int i_), (3, .int (nI i2)), (4, .int j_), (5, .int m), (6, .ref x_40)]) (st₂ := [.int (-1000010 - 2)]) ?_ rfl rfl
                exact z_rim gX hQX (-1000010 - 2, mSt xm (-1000012), it, rw) (⟨by simp only [mCopy, k4, k11, Bool.and_self, if_true, nI_clamp (show i < 2 ^ 31 by omega), nI_clamp (show i2 < 2 ^ 31 by omega), hsz1, hsz2, hwd1, hwd2, hlie]; rw [if_neg (by intro z; rcases z with z | z <;> exact nI_pos (by omega) z), if_neg (by decide)] <;> rfl, hW⟩) rfl (by simp only [mSt_p, pk_us] <;> rfl) (by first | decide | omega) (by first | decide | omega) dX0_copy_73
            · skip
              refine z_ald (pc := 22) gX (zI_ok gX hAX) (j := i) (n := 8) (f := (rF sh 8)) (zm 1 rfl) 5 rfl (by omega) (by decide) (sh i) (rF_lt (by omega)) dX0_copy_22 ?_
              rcases lies2 (i := i_) (j := j_) (n := m) hn1 hn2 with ⟨sp, dp, mm, hs, hd, rfl, rfl, rfl, hlie⟩ | hlie
              · skip
                refine z_getN (pc := 23) gX (zI_ok gX hAX) (zpm 2 rfl (slc_memS (by omega) hra)) (ci := 1) (C := RX1) (T := TX1) (N := 1) rfl in_X1 0 (by decide) (zm 1 rfl) (fun _ h => h) (v := .ref a) rfl dX0_copy_23 ?_
                refine z_iload_n (pc := 26) gX 2 dX0_copy_26 rfl rfl ?_
                refine z_aload_n (pc := 27) gX 0 dX0_copy_27 rfl rfl ?_
                refine z_get (pc := 28) gX (zI_ok gX hAX) (zm 0 rfl) (ci := 0) (C := RX0) (T := TX0) (N := 14) rfl in_X0 0 (by decide) q207 (fun _ h => h) (v := .ref (ad 0)) rfl dX0_copy_28 ?_
                refine z_iload_n (pc := 31) gX 3 dX0_copy_31 rfl rfl ?_
                refine z_ald (pc := 32) gX (zI_ok gX hAX) (j := i2) (n := 8) (f := (rF sh 8)) (zm 1 rfl) 5 rfl (by omega) (by decide) (sh i2) (rF_lt (by omega)) dX0_copy_32 ?_
                refine z_getN (pc := 33) gX (zI_ok gX hAX) (zpm 2 rfl (slc_memS (by omega) hrb)) (ci := 1) (C := RX1) (T := TX1) (N := 1) rfl in_X1 0 (by decide) (zm 1 rfl) (fun _ h => h) (v := .ref b) rfl dX0_copy_33 ?_
                by_cases hii : i = i2
                · skip
                  subst hii
                  obtain ⟨rfl, rfl, rfl⟩ : a = b ∧ n1 = n2 ∧ f1 = f2 := by rw [hra] at hrb; cases hrb; exact ⟨rfl, rfl, rfl⟩
                  refine z_ws [cOb o ad (sa 0) (sb 0) tr x, [(ad 0, .inl (D.1 105, 8, .inr (.inr (.inr (.inr (rF sh 8))))))], [(sh i, .inr (1, [.ref a]))], [(a, .inl (D.1 100, n1, .inl f1))], slR D sh rw i] (sg_perm [[(sh i, .inr (1, [.ref a]))], [(a, .inl (D.1 100, n1, .inl f1))], slR D sh rw i] 2 rfl rfl (sl_os (D := D) (sh := sh) (rw := rw) (i := i) (w := 2) (by omega) hra)) ?_
                  refine z_iload (pc := 36) gX 4 dX0_copy_36 rfl ?_
                  refine z_iload (pc := 38) gX 5 dX0_copy_38 rfl ?_
                  refine z_eq (lv₂ := [(0, .ref o), (1, .int (nI i)), (2, .int (nI sp)), (3, .int (nI i)), (4, .int (nI dp)), (5, .int (nI mm))]) (st₂ := .int (nI mm) :: .int (nI dp) :: .ref a :: .int (nI sp) :: .ref a :: []) ?_ rfl rfl
                  refine z_copyi2 (pc := 40) gX hAX ⟨q442, q444, q443, q64⟩ 3 0 (c0 := D.1 100) (zm 3 rfl) rfl rfl rfl ⟨by omega, by omega, by omega⟩ (by omega) (by omega) (fun _ _ => rfl) (by decide) (by decide) [cOb o ad (sa 0) (sb 0) tr x, [(ad 0, .inl (D.1 105, 8, .inr (.inr (.inr (.inr (rF sh 8))))))], [(sh i, .inr (1, [.ref a]))], [(a, .inl (D.1 100, n1, .inl (va_cpy f1 f1 sp dp mm)))], slR D sh rw i] rfl dX0_copy_40 ?_
                  refine z_ws [cOb o ad (sa 0) (sb 0) tr x, [(ad 0, .inl (D.1 105, 8, .inr (.inr (.inr (.inr (rF sh 8))))))], slP D sh (setR rw i (some (a, 2, n1, va_cpy f1 f1 sp dp mm))) 8] (gs_perm (slP D sh (setR rw i (some (a, 2, n1, va_cpy f1 f1 sp dp mm))) 8) 2 3 rfl (sl_cs (D := D) (sh := sh) (rw := rw) (i := i) (a := a) (w := 2) (n := n1) (f := va_cpy f1 f1 sp dp mm) (by omega))) ?_
                  refine z_aload_n (pc := 43) gX 0 dX0_copy_43 rfl rfl ?_
                  refine z_iload (pc := 44) gX 5 dX0_copy_44 rfl ?_
                  refine z_cMV (pc := 46) gX hAX [.int (nI mm)] [] [0] [1, 2] (fun A1 => met_X0_well l D B0 A1 o ad sa sb tr x (nI mm) ) q354 q356 qs2 q47 q357 (zm 0 rfl) (ci := 0) rfl rfl hd_X0_well ⟨rfl, rfl⟩ ⟨(Nat.le_of_ble_eq_true rfl), (Nat.le_of_ble_eq_true rfl)⟩ rfl rfl rfl rfl rfl (Nat.le_of_ble_eq_true rfl) ⟨(Nat.le_of_ble_eq_true rfl), (Nat.le_of_ble_eq_true rfl)⟩ dX0_copy_46 ?_
                  intro _ hu46
                  refine z_re [0, 1, 2] [cOb o ad (sa 0) (sb 0) tr (upd x 3 0), [(ad 0, .inl (D.1 105, 8, .inr (.inr (.inr (.inr (rF sh 8))))))], slP D sh (setR rw i (some (a, 2, n1, va_cpy f1 f1 sp dp mm))) 8] rfl rfl ?_
                  refine z_eq (lv₂ := [(0, .ref o), (1, .int (nI i)), (2, .int (nI sp)), (3, .int (nI i)), (4, .int (nI dp)), (5, .int (nI mm))]) (st₂ := [.int (nI mm)]) ?_ rfl rfl
                  exact z_rim gX hQX (nI mm, mSt xm (nI mm), cpT it (40 * i + dp) (fun z => it (40 * i + sp + z)) mm, setR rw i (some (a, 2, n1, va_cpy f1 f1 sp dp mm))) (⟨by simp only [mCopy, k4, k11, Bool.and_self, if_true, nI_clamp (show i < 2 ^ 31 by omega), hsz1, hwd1, hlie, nI_clamp (show sp < 2 ^ 31 by omega), nI_clamp (show dp < 2 ^ 31 by omega), nI_clamp (show mm < 2 ^ 31 by omega)]; rw [if_neg (by intro z; rcases z with z | z <;> exact nI_pos (by omega) z)], hW.copy (by omega) (by omega) hra hra hs hd⟩) rfl (by simp only [mSt_0 (show mm ≤ 40 by omega), pk_us]) (by first | decide | omega) (by first | decide | omega) dX0_copy_49
                · skip
                  refine z_ws [cOb o ad (sa 0) (sb 0) tr x, [(ad 0, .inl (D.1 105, 8, .inr (.inr (.inr (.inr (rF sh 8))))))], [(sh i2, .inr (1, [.ref b]))], [(b, .inl (D.1 100, n2, .inl f2))], slR D sh rw i2] (sg_perm [[(sh i2, .inr (1, [.ref b]))], [(b, .inl (D.1 100, n2, .inl f2))], slR D sh rw i2] 2 rfl rfl (sl_os (D := D) (sh := sh) (rw := rw) (i := i2) (w := 2) (by omega) hrb)) ?_
                  refine z_iload (pc := 36) gX 4 dX0_copy_36 rfl ?_
                  refine z_iload (pc := 38) gX 5 dX0_copy_38 rfl ?_
                  refine z_eq (lv₂ := [(0, .ref o), (1, .int (nI i)), (2, .int (nI sp)), (3, .int (nI i2)), (4, .int (nI dp)), (5, .int (nI mm))]) (st₂ := .int (nI mm) :: .int (nI dp) :: .ref b :: .int (nI sp) :: .ref a :: []) ?_ rfl rfl
                  refine z_copyi2 (pc := 40) gX hAX ⟨q442, q444, q443, q64⟩ 3 0 (c0 := D.1 100) (zpm 4 rfl (slR_memA (by omega) (by omega) hii hra)) rfl rfl rfl ⟨by omega, by omega, by omega⟩ (by omega) (by omega) (fun _ _ => rfl) (by decide) (by decide) [cOb o ad (sa 0) (sb 0) tr x, [(ad 0, .inl (D.1 105, 8, .inr (.inr (.inr (.inr (rF sh 8))))))], [(sh i2, .inr (1, [.ref b]))], [(b, .inl (D.1 100, n2, .inl (va_cpy f1 f2 sp dp mm)))], slR D sh rw i2] rfl dX0_copy_40 ?_
                  refine z_ws [cOb o ad (sa 0) (sb 0) tr x, [(ad 0, .inl (D.1 105, 8, .inr (.inr (.inr (.inr (rF sh 8))))))], slP D sh (setR rw i2 (some (b, 2, n2, va_cpy f1 f2 sp dp mm))) 8] (gs_perm (slP D sh (setR rw i2 (some (b, 2, n2, va_cpy f1 f2 sp dp mm))) 8) 2 3 rfl (sl_cs (D := D) (sh := sh) (rw := rw) (i := i2) (a := b) (w := 2) (n := n2) (f := va_cpy f1 f2 sp dp mm) (by omega))) ?_
                  refine z_aload_n (pc := 43) gX 0 dX0_copy_43 rfl rfl ?_
                  refine z_iload (pc := 44) gX 5 dX0_copy_44 rfl ?_
                  refine z_cMV (pc := 46) gX hAX [.int (nI mm)] [] [0] [1, 2] (fun A1 => met_X0_well l D B0 A1 o ad sa sb tr x (nI mm) ) q354 q356 qs2 q47 q357 (zm 0 rfl) (ci := 0) rfl rfl hd_X0_well ⟨rfl, rfl⟩ ⟨(Nat.le_of_ble_eq_true rfl), (Nat.le_of_ble_eq_true rfl)⟩ rfl rfl rfl rfl rfl (Nat.le_of_ble_eq_true rfl) ⟨(Nat.le_of_ble_eq_true rfl), (Nat.le_of_ble_eq_true rfl)⟩ dX0_copy_46 ?_
                  intro _ hu46
                  refine z_re [0, 1, 2] [cOb o ad (sa 0) (sb 0) tr (upd x 3 0), [(ad 0, .inl (D.1 105, 8, .inr (.inr (.inr (.inr (rF sh 8))))))], slP D sh (setR rw i2 (some (b, 2, n2, va_cpy f1 f2 sp dp mm))) 8] rfl rfl ?_
                  refine z_eq (lv₂ := [(0, .ref o), (1, .int (nI i)), (2, .int (nI sp)), (3, .int (nI i2)), (4, .int (nI dp)), (5, .int (nI mm))]) (st₂ := [.int (nI mm)]) ?_ rfl rfl
                  exact z_rim gX hQX (nI mm, mSt xm (nI mm), cpT it (40 * i2 + dp) (fun z => it (40 * i + sp + z)) mm, setR rw i2 (some (b, 2, n2, va_cpy f1 f2 sp dp mm))) (⟨by simp only [mCopy, k4, k11, Bool.and_self, if_true, nI_clamp (show i < 2 ^ 31 by omega), nI_clamp (show i2 < 2 ^ 31 by omega), hsz1, hsz2, hwd1, hwd2, hlie, nI_clamp (show sp < 2 ^ 31 by omega), nI_clamp (show dp < 2 ^ 31 by omega), nI_clamp (show mm < 2 ^ 31 by omega)]; rw [if_neg (by intro z; rcases z with z | z <;> exact nI_pos (by omega) z)], hW.copy (by omega) (by omega) hra hrb hs hd⟩) rfl (by simp only [mSt_0 (show mm ≤ 40 by omega), pk_us]) (by first | decide | omega) (by first | decide | omega) dX0_copy_49
              · skip
                refine z_getN (pc := 23) gX (zI_ok gX hAX) (zpm 2 rfl (slc_memS (by omega) hra)) (ci := 1) (C := RX1) (T := TX1) (N := 1) rfl in_X1 0 (by decide) (zm 1 rfl) (fun _ h => h) (v := .ref a) rfl dX0_copy_23 ?_
                refine z_iload_n (pc := 26) gX 2 dX0_copy_26 rfl rfl ?_
                refine z_aload_n (pc := 27) gX 0 dX0_copy_27 rfl rfl ?_
                refine z_get (pc := 28) gX (zI_ok gX hAX) (zm 0 rfl) (ci := 0) (C := RX0) (T := TX0) (N := 14) rfl in_X0 0 (by decide) q207 (fun _ h => h) (v := .ref (ad 0)) rfl dX0_copy_28 ?_
                refine z_iload_n (pc := 31) gX 3 dX0_copy_31 rfl rfl ?_
                refine z_ald (pc := 32) gX (zI_ok gX hAX) (j := i2) (n := 8) (f := (rF sh 8)) (zm 1 rfl) 5 rfl (by omega) (by decide) (sh i2) (rF_lt (by omega)) dX0_copy_32 ?_
                refine z_getN (pc := 33) gX (zI_ok gX hAX) (zpm 2 rfl (slc_memS (by omega) hrb)) (ci := 1) (C := RX1) (T := TX1) (N := 1) rfl in_X1 0 (by decide) (zm 1 rfl) (fun _ h => h) (v := .ref b) rfl dX0_copy_33 ?_
                refine z_iload (pc := 36) gX 4 dX0_copy_36 rfl ?_
                refine z_iload (pc := 38) gX 5 dX0_copy_38 rfl ?_
                refine z_copyB (pc := 40) gX hAX hl ⟨by first | decide | (simp only [zRm]; omega), by first | decide | (simp only [zRm]; omega)⟩ ⟨by first | decide | (simp only [zRm]; omega), by first | decide | (simp only [zRm]; omega)⟩ ⟨q442, q444, q443, q64⟩ 0 0 (c0 := D.1 100) (c1 := D.1 100) (sT := .int) (dT := .int) (zpm 2 rfl (slc_memA (by omega) hra)) (zpm 2 rfl (slc_memA (by omega) hrb)) rfl rfl (by decide) ⟨hn1, hn2⟩ hlie dX0_copy_40 ?_
                refine z_xcatch (E := "java/lang/ArrayIndexOutOfBoundsException") gX [(17, 49, 50, 113), (17, 49, 58, 123), (17, 49, 66, 125)] htabX [⟨17, 49, 50, 113⟩, ⟨17, 49, 58, 123⟩] ⟨17, 49, 66, 125⟩ [] rfl (List.forall_mem_cons.mpr ⟨Or.inr ⟨by decide, "java/lang/NullPointerException", gX.ts _ q368, gX.zk.nc (fun _ _ h => flat_of_before _ h _ (by decide +kernel))⟩, List.forall_mem_cons.mpr ⟨Or.inr ⟨by decide, "java/lang/ArrayStoreException", gX.ts _ q427, gX.zk.nc (fun _ _ h => flat_of_before _ h _ (by decide +kernel))⟩, fun _ h => absurd h List.not_mem_nil⟩⟩) (by decide) (by decide) q441 (va_any rfl (gX.zk.cast q1711)) (fun x_40 hx_40 => ?_)
                refine z_astore (pc := 66) gX [1, 2, 3, 4, 5, 6, 0] [(0, .ref o), (1, .int (nI i)), (2, .int i_), (3, .int (nI i2)), (4, .int j_), (5, .int m), (6, .ref x_40)] dX0_copy_66 (by decide) rfl ?_
                refine z_aload_n (pc := 68) gX 0 dX0_copy_68 rfl rfl ?_
                refine z_iconst (pc := 69) gX 2 dX0_copy_69 (by decide) ?_
                refine z_cMV (pc := 70) gX hAX [.int 2] [] [0] [1, 2] (fun A1 => met_X0_found l D B0 A1 o ad sa sb tr x 2 ) q358 q360 qs3 q47 q361 (zm 0 rfl) (ci := 0) rfl rfl hd_X0_found ⟨rfl, rfl⟩ ⟨(Nat.le_of_ble_eq_true rfl), (Nat.le_of_ble_eq_true rfl)⟩ rfl rfl rfl rfl rfl (Nat.le_of_ble_eq_true rfl) ⟨(Nat.le_of_ble_eq_true rfl), (Nat.le_of_ble_eq_true rfl)⟩ dX0_copy_70 ?_
                intro _ hu70
                refine z_re [0, 1, 2] [cOb o ad (sa 0) (sb 0) tr (upd x 3 2), [(ad 0, .inl (D.1 105, 8, .inr (.inr (.inr (.inr (rF sh 8))))))], slP D sh rw 8] rfl rfl ?_
                refine z_eq (lv₂ := [(0, .ref o), (1, .int (nI i)), (2, .int i_), (3, .int (nI i2)), (4, .int j_), (5, .int m), (6, .ref x_40)]) (st₂ := [.int (-1000010 - 2)]) ?_ rfl rfl
                exact z_rim gX hQX (-1000010 - 2, mSt xm (-1000012), it, rw) (⟨by simp only [mCopy, k4, k11, Bool.and_self, if_true, nI_clamp (show i < 2 ^ 31 by omega), nI_clamp (show i2 < 2 ^ 31 by omega), hsz1, hsz2, hwd1, hwd2, hlie]; rw [if_neg (by intro z; rcases z with z | z <;> exact nI_pos (by omega) z), if_neg (by decide)] <;> rfl, hW⟩) rfl (by simp only [mSt_p, pk_us] <;> rfl) (by first | decide | omega) (by first | decide | omega) dX0_copy_73
          · skip
            refine z_iload_n (pc := 21) gX 1 dX0_copy_21 rfl rfl ?_
            rcases (show (w1 = 0 ∧ w2 = 1) ∨ (w1 = 0 ∧ w2 = 2) ∨ (w1 = 1 ∧ w2 = 0) ∨ (w1 = 1 ∧ w2 = 2) ∨ (w1 = 2 ∧ w2 = 0) ∨ (w1 = 2 ∧ w2 = 1) by omega) with ⟨rfl, rfl⟩ | ⟨rfl, rfl⟩ | ⟨rfl, rfl⟩ | ⟨rfl, rfl⟩ | ⟨rfl, rfl⟩ | ⟨rfl, rfl⟩
            · skip
              refine z_ald (pc := 22) gX (zI_ok gX hAX) (j := i) (n := 8) (f := (rF sh 8)) (zm 1 rfl) 5 rfl (by omega) (by decide) (sh i) (rF_lt (by omega)) dX0_copy_22 ?_
              refine z_getN (pc := 23) gX (zI_ok gX hAX) (zpm 2 rfl (slc_memS (by omega) hra)) (ci := 1) (C := RX1) (T := TX1) (N := 1) rfl in_X1 0 (by decide) (zm 1 rfl) (fun _ h => h) (v := .ref a) rfl dX0_copy_23 ?_
              refine z_iload_n (pc := 26) gX 2 dX0_copy_26 rfl rfl ?_
              refine z_aload_n (pc := 27) gX 0 dX0_copy_27 rfl rfl ?_
              refine z_get (pc := 28) gX (zI_ok gX hAX) (zm 0 rfl) (ci := 0) (C := RX0) (T := TX0) (N := 14) rfl in_X0 0 (by decide) q207 (fun _ h => h) (v := .ref (ad 0)) rfl dX0_copy_28 ?_
              refine z_iload_n (pc := 31) gX 3 dX0_copy_31 rfl rfl ?_
              refine z_ald (pc := 32) gX (zI_ok gX hAX) (j := i2) (n := 8) (f := (rF sh 8)) (zm 1 rfl) 5 rfl (by omega) (by decide) (sh i2) (rF_lt (by omega)) dX0_copy_32 ?_
              refine z_getN (pc := 33) gX (zI_ok gX hAX) (zpm 2 rfl (slc_memS (by omega) hrb)) (ci := 1) (C := RX1) (T := TX1) (N := 1) rfl in_X1 0 (by decide) (zm 1 rfl) (fun _ h => h) (v := .ref b) rfl dX0_copy_33 ?_
              refine z_iload (pc := 36) gX 4 dX0_copy_36 rfl ?_
              refine z_iload (pc := 38) gX 5 dX0_copy_38 rfl ?_
              refine z_copyS (pc := 40) gX hAX hl ⟨by first | decide | (simp only [zRm]; omega), by first | decide | (simp only [zRm]; omega)⟩ ⟨by first | decide | (simp only [zRm]; omega), by first | decide | (simp only [zRm]; omega)⟩ ⟨q442, q444, q443, q64⟩ 1 2 (c0 := D.1 101) (c1 := D.1 102) (sT := .byte) (dT := .short) (zpm 2 rfl (slc_memA (by omega) hra)) (zpm 2 rfl (slc_memA (by omega) hrb)) rfl rfl (by decide) ⟨by decide +kernel, by decide +kernel⟩ dX0_copy_40 ?_
              refine z_xcatch (E := "java/lang/ArrayStoreException") gX [(17, 49, 50, 113), (17, 49, 58, 123), (17, 49, 66, 125)] htabX [⟨17, 49, 50, 113⟩] ⟨17, 49, 58, 123⟩ [⟨17, 49, 66, 125⟩] rfl (List.forall_mem_cons.mpr ⟨Or.inr ⟨by decide, "java/lang/NullPointerException", gX.ts _ q368, gX.zk.nc (fun _ _ h => flat_of_before _ h _ (by decide +kernel))⟩, fun _ h => absurd h List.not_mem_nil⟩) (by decide) (by decide) q427 (va_any rfl (gX.zk.cast q439)) (fun x_40 hx_40 => ?_)
              refine z_astore (pc := 58) gX [1, 2, 3, 4, 5, 6, 0] [(0, .ref o), (1, .int (nI i)), (2, .int i_), (3, .int (nI i2)), (4, .int j_), (5, .int m), (6, .ref x_40)] dX0_copy_58 (by decide) rfl ?_
              refine z_aload_n (pc := 60) gX 0 dX0_copy_60 rfl rfl ?_
              refine z_iconst (pc := 61) gX 5 dX0_copy_61 (by decide) ?_
              refine z_cMV (pc := 62) gX hAX [.int 5] [] [0] [1, 2] (fun A1 => met_X0_found l D B0 A1 o ad sa sb tr x 5 ) q358 q360 qs3 q47 q361 (zm 0 rfl) (ci := 0) rfl rfl hd_X0_found ⟨rfl, rfl⟩ ⟨(Nat.le_of_ble_eq_true rfl), (Nat.le_of_ble_eq_true rfl)⟩ rfl rfl rfl rfl rfl (Nat.le_of_ble_eq_true rfl) ⟨(Nat.le_of_ble_eq_true rfl), (Nat.le_of_ble_eq_true rfl)⟩ dX0_copy_62 ?_
              intro _ hu62
              refine z_re [0, 1, 2] [cOb o ad (sa 0) (sb 0) tr (upd x 3 5), [(ad 0, .inl (D.1 105, 8, .inr (.inr (.inr (.inr (rF sh 8))))))], slP D sh rw 8] rfl rfl ?_
              refine z_eq (lv₂ := [(0, .ref o), (1, .int (nI i)), (2, .int i_), (3, .int (nI i2)), (4, .int j_), (5, .int m), (6, .ref x_40)]) (st₂ := [.int (-1000010 - 5)]) ?_ rfl rfl
              exact z_rim gX hQX (-1000010 - 5, mSt xm (-1000015), it, rw) (⟨by simp only [mCopy, k4, k11, Bool.and_self, if_true, nI_clamp (show i < 2 ^ 31 by omega), nI_clamp (show i2 < 2 ^ 31 by omega), hsz1, hsz2, hwd1, hwd2]; rw [if_neg (by intro z; rcases z with z | z <;> exact nI_pos (by omega) z), if_neg (by decide)] <;> rfl, hW⟩) rfl (by simp only [mSt_t, pk_us] <;> rfl) (by first | decide | omega) (by first | decide | omega) dX0_copy_65
            · skip
              refine z_ald (pc := 22) gX (zI_ok gX hAX) (j := i) (n := 8) (f := (rF sh 8)) (zm 1 rfl) 5 rfl (by omega) (by decide) (sh i) (rF_lt (by omega)) dX0_copy_22 ?_
              refine z_getN (pc := 23) gX (zI_ok gX hAX) (zpm 2 rfl (slc_memS (by omega) hra)) (ci := 1) (C := RX1) (T := TX1) (N := 1) rfl in_X1 0 (by decide) (zm 1 rfl) (fun _ h => h) (v := .ref a) rfl dX0_copy_23 ?_
              refine z_iload_n (pc := 26) gX 2 dX0_copy_26 rfl rfl ?_
              refine z_aload_n (pc := 27) gX 0 dX0_copy_27 rfl rfl ?_
              refine z_get (pc := 28) gX (zI_ok gX hAX) (zm 0 rfl) (ci := 0) (C := RX0) (T := TX0) (N := 14) rfl in_X0 0 (by decide) q207 (fun _ h => h) (v := .ref (ad 0)) rfl dX0_copy_28 ?_
              refine z_iload_n (pc := 31) gX 3 dX0_copy_31 rfl rfl ?_
              refine z_ald (pc := 32) gX (zI_ok gX hAX) (j := i2) (n := 8) (f := (rF sh 8)) (zm 1 rfl) 5 rfl (by omega) (by decide) (sh i2) (rF_lt (by omega)) dX0_copy_32 ?_
              refine z_getN (pc := 33) gX (zI_ok gX hAX) (zpm 2 rfl (slc_memS (by omega) hrb)) (ci := 1) (C := RX1) (T := TX1) (N := 1) rfl in_X1 0 (by decide) (zm 1 rfl) (fun _ h => h) (v := .ref b) rfl dX0_copy_33 ?_
              refine z_iload (pc := 36) gX 4 dX0_copy_36 rfl ?_
              refine z_iload (pc := 38) gX 5 dX0_copy_38 rfl ?_
              refine z_copyS (pc := 40) gX hAX hl ⟨by first | decide | (simp only [zRm]; omega), by first | decide | (simp only [zRm]; omega)⟩ ⟨by first | decide | (simp only [zRm]; omega), by first | decide | (simp only [zRm]; omega)⟩ ⟨q442, q444, q443, q64⟩ 1 0 (c0 := D.1 101) (c1 := D.1 100) (sT := .byte) (dT := .int) (zpm 2 rfl (slc_memA (by omega) hra)) (zpm 2 rfl (slc_memA (by omega) hrb)) rfl rfl (by decide) ⟨by decide +kernel, by decide +kernel⟩ dX0_copy_40 ?_
              refine z_xcatch (E := "java/lang/ArrayStoreException") gX [(17, 49, 50, 113), (17, 49, 58, 123), (17, 49, 66, 125)] htabX [⟨17, 49, 50, 113⟩] ⟨17, 49, 58, 123⟩ [⟨17, 49, 66, 125⟩] rfl (List.forall_mem_cons.mpr ⟨Or.inr ⟨by decide, "java/lang/NullPointerException", gX.ts _ q368, gX.zk.nc (fun _ _ h => flat_of_before _ h _ (by decide +kernel))⟩, fun _ h => absurd h List.not_mem_nil⟩) (by decide) (by decide) q427 (va_any rfl (gX.zk.cast q439)) (fun x_40 hx_40 => ?_)
              refine z_astore (pc := 58) gX [1, 2, 3, 4, 5, 6, 0] [(0, .ref o), (1, .int (nI i)), (2, .int i_), (3, .int (nI i2)), (4, .int j_), (5, .int m), (6, .ref x_40)] dX0_copy_58 (by decide) rfl ?_
              refine z_aload_n (pc := 60) gX 0 dX0_copy_60 rfl rfl ?_
              refine z_iconst (pc := 61) gX 5 dX0_copy_61 (by decide) ?_
              refine z_cMV (pc := 62) gX hAX [.int 5] [] [0] [1, 2] (fun A1 => met_X0_found l D B0 A1 o ad sa sb tr x 5 ) q358 q360 qs3 q47 q361 (zm 0 rfl) (ci := 0) rfl rfl hd_X0_found ⟨rfl, rfl⟩ ⟨(Nat.le_of_ble_eq_true rfl), (Nat.le_of_ble_eq_true rfl)⟩ rfl rfl rfl rfl rfl (Nat.le_of_ble_eq_true rfl) ⟨(Nat.le_of_ble_eq_true rfl), (Nat.le_of_ble_eq_true rfl)⟩ dX0_copy_62 ?_
              intro _ hu62
              refine z_re [0, 1, 2] [cOb o ad (sa 0) (sb 0) tr (upd x 3 5), [(ad 0, .inl (D.1 105, 8, .inr (.inr (.inr (.inr (rF sh 8))))))], slP D sh rw 8] rfl rfl ?_
              refine z_eq (lv₂ := [(0, .ref o), (1, .int (nI i)), (2, .int i_), (3, .int (nI i2)), (4, .int j_), (5, .int m), (6, .ref x_40)]) (st₂ := [.int (-1000010 - 5)]) ?_ rfl rfl
              exact z_rim gX hQX (-1000010 - 5, mSt xm (-1000015), it, rw) (⟨by simp only [mCopy, k4, k11, Bool.and_self, if_true, nI_clamp (show i < 2 ^ 31 by omega), nI_clamp (show i2 < 2 ^ 31 by omega), hsz1, hsz2, hwd1, hwd2]; rw [if_neg (by intro z; rcases z with z | z <;> exact nI_pos (by omega) z), if_neg (by decide)] <;> rfl, hW⟩) rfl (by simp only [mSt_t, pk_us] <;> rfl) (by first | decide | omega) (by first | decide | omega) dX0_copy_65
            · skip
              refine z_ald (pc := 22) gX (zI_ok gX hAX) (j := i) (n := 8) (f := (rF sh 8)) (zm 1 rfl) 5 rfl (by omega) (by decide) (sh i) (rF_lt (by omega)) dX0_copy_22 ?_
              refine z_getN (pc := 23) gX (zI_ok gX hAX) (zpm 2 rfl (slc_memS (by omega) hra)) (ci := 1) (C := RX1) (T := TX1) (N := 1) rfl in_X1 0 (by decide) (zm 1 rfl) (fun _ h => h) (v := .ref a) rfl dX0_copy_23 ?_
              refine z_iload_n (pc := 26) gX 2 dX0_copy_26 rfl rfl ?_
              refine z_aload_n (pc := 27) gX 0 dX0_copy_27 rfl rfl ?_
              refine z_get (pc := 28) gX (zI_ok gX hAX) (zm 0 rfl) (ci := 0) (C := RX0) (T := TX0) (N := 14) rfl in_X0 0 (by decide) q207 (fun _ h => h) (v := .ref (ad 0)) rfl dX0_copy_28 ?_
              refine z_iload_n (pc := 31) gX 3 dX0_copy_31 rfl rfl ?_
              refine z_ald (pc := 32) gX (zI_ok gX hAX) (j := i2) (n := 8) (f := (rF sh 8)) (zm 1 rfl) 5 rfl (by omega) (by decide) (sh i2) (rF_lt (by omega)) dX0_copy_32 ?_
              refine z_getN (pc := 33) gX (zI_ok gX hAX) (zpm 2 rfl (slc_memS (by omega) hrb)) (ci := 1) (C := RX1) (T := TX1) (N := 1) rfl in_X1 0 (by decide) (zm 1 rfl) (fun _ h => h) (v := .ref b) rfl dX0_copy_33 ?_
              refine z_iload (pc := 36) gX 4 dX0_copy_36 rfl ?_
              refine z_iload (pc := 38) gX 5 dX0_copy_38 rfl ?_
              refine z_copyS (pc := 40) gX hAX hl ⟨by first | decide | (simp only [zRm]; omega), by first | decide | (simp only [zRm]; omega)⟩ ⟨by first | decide | (simp only [zRm]; omega), by first | decide | (simp only [zRm]; omega)⟩ ⟨q442, q444, q443, q64⟩ 2 1 (c0 := D.1 102) (c1 := D.1 101) (sT := .short) (dT := .byte) (zpm 2 rfl (slc_memA (by omega) hra)) (zpm 2 rfl (slc_memA (by omega) hrb)) rfl rfl (by decide) ⟨by decide +kernel, by decide +kernel⟩ dX0_copy_40 ?_
              refine z_xcatch (E := "java/lang/ArrayStoreException") gX [(17, 49, 50, 113), (17, 49, 58, 123), (17, 49, 66, 125)] htabX [⟨17, 49, 50, 113⟩] ⟨17, 49, 58, 123⟩ [⟨17, 49, 66, 125⟩] rfl (List.forall_mem_cons.mpr ⟨Or.inr ⟨by decide, "java/lang/NullPointerException", gX.ts _ q368, gX.zk.nc (fun _ _ h => flat_of_before _ h _ (by decide +kernel))⟩, fun _ h => absurd h List.not_mem_nil⟩) (by decide) (by decide) q427 (va_any rfl (gX.zk.cast q439)) (fun x_40 hx_40 => ?_)
              refine z_astore (pc := 58) gX [1, 2, 3, 4, 5, 6, 0] [(0, .ref o), (1, .int (nI i)), (2, .int i_), (3, .int (nI i2)), (4, .int j_), (5, .int m), (6, .ref x_40)] dX0_copy_58 (by decide) rfl ?_
              refine z_aload_n (pc := 60) gX 0 dX0_copy_60 rfl rfl ?_
              refine z_iconst (pc := 61) gX 5 dX0_copy_61 (by decide) ?_
              refine z_cMV (pc := 62) gX hAX [.int 5] [] [0] [1, 2] (fun A1 => met_X0_found l D B0 A1 o ad sa sb tr x 5 ) q358 q360 qs3 q47 q361 (zm 0 rfl) (ci := 0) rfl rfl hd_X0_found ⟨rfl, rfl⟩ ⟨(Nat.le_of_ble_eq_true rfl), (Nat.le_of_ble_eq_true rfl)⟩ rfl rfl rfl rfl rfl (Nat.le_of_ble_eq_true rfl) ⟨(Nat.le_of_ble_eq_true rfl), (Nat.le_of_ble_eq_true rfl)⟩ dX0_copy_62 ?_
              intro _ hu62
              refine z_re [0, 1, 2] [cOb o ad (sa 0) (sb 0) tr (upd x 3 5), [(ad 0, .inl (D.1 105, 8, .inr (.inr (.inr (.inr (rF sh 8))))))], slP D sh rw 8] rfl rfl ?_
              refine z_eq (lv₂ := [(0, .ref o), (1, .int (nI i)), (2, .int i_), (3, .int (nI i2)), (4, .int j_), (5, .int m), (6, .ref x_40)]) (st₂ := [.int (-1000010 - 5)]) ?_ rfl rfl
              exact z_rim gX hQX (-1000010 - 5, mSt xm (-1000015), it, rw) (⟨by simp only [mCopy, k4, k11, Bool.and_self, if_true, nI_clamp (show i < 2 ^ 31 by omega), nI_clamp (show i2 < 2 ^ 31 by omega), hsz1, hsz2, hwd1, hwd2]; rw [if_neg (by intro z; rcases z with z | z <;> exact nI_pos (by omega) z), if_neg (by decide)] <;> rfl, hW⟩) rfl (by simp only [mSt_t, pk_us] <;> rfl) (by first | decide | omega) (by first | decide | omega) dX0_copy_65
            · skip
              refine z_ald (pc := 22) gX (zI_ok gX hAX) (j := i) (n := 8) (f := (rF sh 8)) (zm 1 rfl) 5 rfl (by omega) (by decide) (sh i) (rF_lt (by omega)) dX0_copy_22 ?_
              refine z_getN (pc := 23) gX (zI_ok gX hAX) (zpm 2 rfl (slc_memS (by omega) hra)) (ci := 1) (C := RX1) (T := TX1) (N := 1) rfl in_X1 0 (by decide) (zm 1 rfl) (fun _ h => h) (v := .ref a) rfl dX0_copy_23 ?_
              refine z_iload_n (pc := 26) gX 2 dX0_copy_26 rfl rfl ?_
              refine z_aload_n (pc := 27) gX 0 dX0_copy_27 rfl rfl ?_
              refine z_get (pc := 28) gX (zI_ok gX hAX) (zm 0 rfl) (ci := 0) (C := RX0) (T := TX0) (N := 14) rfl in_X0 0 (by decide) q207 (fun _ h => h) (v := .ref (ad 0)) rfl dX0_copy_28 ?_
              refine z_iload_n (pc := 31) gX 3 dX0_copy_31 rfl rfl ?_
              refine z_ald (pc := 32) gX (zI_ok gX hAX) (j := i2) (n := 8) (f := (rF sh 8)) (zm 1 rfl) 5 rfl (by omega) (by decide) (sh i2) (rF_lt (by omega)) dX0_copy_32 ?_
              refine z_getN (pc := 33) gX (zI_ok gX hAX) (zpm 2 rfl (slc_memS (by omega) hrb)) (ci := 1) (C := RX1) (T := TX1) (N := 1) rfl in_X1 0 (by decide) (zm 1 rfl) (fun _ h => h) (v := .ref b) rfl dX0_copy_33 ?_
              refine z_iload (pc := 36) gX 4 dX0_copy_36 rfl ?_
              refine z_iload (pc := 38) gX 5 dX0_copy_38 rfl ?_
              refine z_copyS (pc := 40) gX hAX hl ⟨by first | decide | (simp only [zRm]; omega), by first | decide | (simp only [zRm]; omega)⟩ ⟨by first | decide | (simp only [zRm]; omega), by first | decide | (simp only [zRm]; omega)⟩ ⟨q442, q444, q443, q64⟩ 2 0 (c0 := D.1 102) (c1 := D.1 100) (sT := .short) (dT := .int) (zpm 2 rfl (slc_memA (by omega) hra)) (zpm 2 rfl (slc_memA (by omega) hrb)) rfl rfl (by decide) ⟨by decide +kernel, by decide +kernel⟩ dX0_copy_40 ?_
              refine z_xcatch (E := "java/lang/ArrayStoreException") gX [(17, 49, 50, 113), (17, 49, 58, 123), (17, 49, 66, 125)] htabX [⟨17, 49, 50, 113⟩] ⟨17, 49, 58, 123⟩ [⟨17, 49, 66, 125⟩] rfl (List.forall_mem_cons.mpr ⟨Or.inr ⟨by decide, "java/lang/NullPointerException", gX.ts _ q368, gX.zk.nc (fun _ _ h => flat_of_before _ h _ (by decide +kernel))⟩, fun _ h => absurd h List.not_mem_nil⟩) (by decide) (by decide) q427 (va_any rfl (gX.zk.cast q439)) (fun x_40 hx_40 => ?_)
              refine z_astore (pc := 58) gX [1, 2, 3, 4, 5, 6, 0] [(0, .ref o), (1, .int (nI i)), (2, .int i_), (3, .int (nI i2)), (4, .int j_), (5, .int m), (6, .ref x_40)] dX0_copy_58 (by decide) rfl ?_
              refine z_aload_n (pc := 60) gX 0 dX0_copy_60 rfl rfl ?_
              refine z_iconst (pc := 61) gX 5 dX0_copy_61 (by decide) ?_
              refine z_cMV (pc := 62) gX hAX [.int 5] [] [0] [1, 2] (fun A1 => met_X0_found l D B0 A1 o ad sa sb tr x 5 ) q358 q360 qs3 q47 q361 (zm 0 rfl) (ci := 0) rfl rfl hd_X0_found ⟨rfl, rfl⟩ ⟨(Nat.le_of_ble_eq_true rfl), (Nat.le_of_ble_eq_true rfl)⟩ rfl rfl rfl rfl rfl (Nat.le_of_ble_eq_true rfl) ⟨(Nat.le_of_ble_eq_true rfl), (Nat.le_of_ble_eq_true rfl)⟩ dX0_copy_62 ?_
              intro _ hu62
              refine z_re [0, 1, 2] [cOb o ad (sa 0) (sb 0) tr (upd x 3 5), [(ad 0, .inl (D.1 105, 8, .inr (.inr (.inr (.inr (rF sh 8))))))], slP D sh rw 8] rfl rfl ?_
              refine z_eq (lv₂ := [(0, .ref o), (1, .int (nI i)), (2, .int i_), (3, .int (nI i2)), (4, .int j_), (5, .int m), (6, .ref x_40)]) (st₂ := [.int (-1000010 - 5)]) ?_ rfl rfl
              exact z_rim gX hQX (-1000010 - 5, mSt xm (-1000015), it, rw) (⟨by simp only [mCopy, k4, k11, Bool.and_self, if_true, nI_clamp (show i < 2 ^ 31 by omega), nI_clamp (show i2 < 2 ^ 31 by omega), hsz1, hsz2, hwd1, hwd2]; rw [if_neg (by intro z; rcases z with z | z <;> exact nI_pos (by omega) z), if_neg (by decide)] <;> rfl, hW⟩) rfl (by simp only [mSt_t, pk_us] <;> rfl) (by first | decide | omega) (by first | decide | omega) dX0_copy_65
            · skip
              refine z_ald (pc := 22) gX (zI_ok gX hAX) (j := i) (n := 8) (f := (rF sh 8)) (zm 1 rfl) 5 rfl (by omega) (by decide) (sh i) (rF_lt (by omega)) dX0_copy_22 ?_
              refine z_getN (pc := 23) gX (zI_ok gX hAX) (zpm 2 rfl (slc_memS (by omega) hra)) (ci := 1) (C := RX1) (T := TX1) (N := 1) rfl in_X1 0 (by decide) (zm 1 rfl) (fun _ h => h) (v := .ref a) rfl dX0_copy_23 ?_
              refine z_iload_n (pc := 26) gX 2 dX0_copy_26 rfl rfl ?_
              refine z_aload_n (pc := 27) gX 0 dX0_copy_27 rfl rfl ?_
              refine z_get (pc := 28) gX (zI_ok gX hAX) (zm 0 rfl) (ci := 0) (C := RX0) (T := TX0) (N := 14) rfl in_X0 0 (by decide) q207 (fun _ h => h) (v := .ref (ad 0)) rfl dX0_copy_28 ?_
              refine z_iload_n (pc := 31) gX 3 dX0_copy_31 rfl rfl ?_
              refine z_ald (pc := 32) gX (zI_ok gX hAX) (j := i2) (n := 8) (f := (rF sh 8)) (zm 1 rfl) 5 rfl (by omega) (by decide) (sh i2) (rF_lt (by omega)) dX0_copy_32 ?_
              refine z_getN (pc := 33) gX (zI_ok gX hAX) (zpm 2 rfl (slc_memS (by omega) hrb)) (ci := 1) (C := RX1) (T := TX1) (N := 1) rfl in_X1 0 (by decide) (zm 1 rfl) (fun _ h => h) (v := .ref b) rfl dX0_copy_33 ?_
              refine z_iload (pc := 36) gX 4 dX0_copy_36 rfl ?_
              refine z_iload (pc := 38) gX 5 dX0_copy_38 rfl ?_
              refine z_copyS (pc := 40) gX hAX hl ⟨by first | decide | (simp only [zRm]; omega), by first | decide | (simp only [zRm]; omega)⟩ ⟨by first | decide | (simp only [zRm]; omega), by first | decide | (simp only [zRm]; omega)⟩ ⟨q442, q444, q443, q64⟩ 0 1 (c0 := D.1 100) (c1 := D.1 101) (sT := .int) (dT := .byte) (zpm 2 rfl (slc_memA (by omega) hra)) (zpm 2 rfl (slc_memA (by omega) hrb)) rfl rfl (by decide) ⟨by decide +kernel, by decide +kernel⟩ dX0_copy_40 ?_
              refine z_xcatch (E := "java/lang/ArrayStoreException") gX [(17, 49, 50, 113), (17, 49, 58, 123), (17, 49, 66, 125)] htabX [⟨17, 49, 50, 113⟩] ⟨17, 49, 58, 123⟩ [⟨17, 49, 66, 125⟩] rfl (List.forall_mem_cons.mpr ⟨Or.inr ⟨by decide, "java/lang/NullPointerException", gX.ts _ q368, gX.zk.nc (fun _ _ h => flat_of_before _ h _ (by decide +kernel))⟩, fun _ h => absurd h List.not_mem_nil⟩) (by decide) (by decide) q427 (va_any rfl (gX.zk.cast q439)) (fun x_40 hx_40 => ?_)
              refine z_astore (pc := 58) gX [1, 2, 3, 4, 5, 6, 0] [(0, .ref o), (1, .int (nI i)), (2, .int i_), (3, .int (nI i2)), (4, .int j_), (5, .int m), (6, .ref x_40)] dX0_copy_58 (by decide) rfl ?_
              refine z_aload_n (pc := 60) gX 0 dX0_copy_60 rfl rfl ?_
              refine z_iconst (pc := 61) gX 5 dX0_copy_61 (by decide) ?_
              refine z_cMV (pc := 62) gX hAX [.int 5] [] [0] [1, 2] (fun A1 => met_X0_found l D B0 A1 o ad sa sb tr x 5 ) q358 q360 qs3 q47 q361 (zm 0 rfl) (ci := 0) rfl rfl hd_X0_found ⟨rfl, rfl⟩ ⟨(Nat.le_of_ble_eq_true rfl), (Nat.le_of_ble_eq_true rfl)⟩ rfl rfl rfl rfl rfl (Nat.le_of_ble_eq_true rfl) ⟨(Nat.le_of_ble_eq_true rfl), (Nat.le_of_ble_eq_true rfl)⟩ dX0_copy_62 ?_
              intro _ hu62
              refine z_re [0, 1, 2] [cOb o ad (sa 0) (sb 0) tr (upd x 3 5), [(ad 0, .inl (D.1 105, 8, .inr (.inr (.inr (.inr (rF sh 8))))))], slP D sh rw 8] rfl rfl ?_
              refine z_eq (lv₂ := [(0, .ref o), (1, .int (nI i)), (2, .int i_), (3, .int (nI i2)), (4, .int j_), (5, .int m), (6, .ref x_40)]) (st₂ := [.int (-1000010 - 5)]) ?_ rfl rfl
              exact z_rim gX hQX (-1000010 - 5, mSt xm (-1000015), it, rw) (⟨by simp only [mCopy, k4, k11, Bool.and_self, if_true, nI_clamp (show i < 2 ^ 31 by omega), nI_clamp (show i2 < 2 ^ 31 by omega), hsz1, hsz2, hwd1, hwd2]; rw [if_neg (by intro z; rcases z with z | z <;> exact nI_pos (by omega) z), if_neg (by decide)] <;> rfl, hW⟩) rfl (by simp only [mSt_t, pk_us] <;> rfl) (by first | decide | omega) (by first | decide | omega) dX0_copy_65
            · skip
              refine z_ald (pc := 22) gX (zI_ok gX hAX) (j := i) (n := 8) (f := (rF sh 8)) (zm 1 rfl) 5 rfl (by omega) (by decide) (sh i) (rF_lt (by omega)) dX0_copy_22 ?_
              refine z_getN (pc := 23) gX (zI_ok gX hAX) (zpm 2 rfl (slc_memS (by omega) hra)) (ci := 1) (C := RX1) (T := TX1) (N := 1) rfl in_X1 0 (by decide) (zm 1 rfl) (fun _ h => h) (v := .ref a) rfl dX0_copy_23 ?_
              refine z_iload_n (pc := 26) gX 2 dX0_copy_26 rfl rfl ?_
              refine z_aload_n (pc := 27) gX 0 dX0_copy_27 rfl rfl ?_
              refine z_get (pc := 28) gX (zI_ok gX hAX) (zm 0 rfl) (ci := 0) (C := RX0) (T := TX0) (N := 14) rfl in_X0 0 (by decide) q207 (fun _ h => h) (v := .ref (ad 0)) rfl dX0_copy_28 ?_
              refine z_iload_n (pc := 31) gX 3 dX0_copy_31 rfl rfl ?_
              refine z_ald (pc := 32) gX (zI_ok gX hAX) (j := i2) (n := 8) (f := (rF sh 8)) (zm 1 rfl) 5 rfl (by omega) (by decide) (sh i2) (rF_lt (by omega)) dX0_copy_32 ?_
              refine z_getN (pc := 33) gX (zI_ok gX hAX) (zpm 2 rfl (slc_memS (by omega) hrb)) (ci := 1) (C := RX1) (T := TX1) (N := 1) rfl in_X1 0 (by decide) (zm 1 rfl) (fun _ h => h) (v := .ref b) rfl dX0_copy_33 ?_
              refine z_iload (pc := 36) gX 4 dX0_copy_36 rfl ?_
              refine z_iload (pc := 38) gX 5 dX0_copy_38 rfl ?_
              refine z_copyS (pc := 40) gX hAX hl ⟨by first | decide | (simp only [zRm]; omega), by first | decide | (simp only [zRm]; omega)⟩ ⟨by first | decide | (simp only [zRm]; omega), by first | decide | (simp only [zRm]; omega)⟩ ⟨q442, q444, q443, q64⟩ 0 2 (c0 := D.1 100) (c1 := D.1 102) (sT := .int) (dT := .short) (zpm 2 rfl (slc_memA (by omega) hra)) (zpm 2 rfl (slc_memA (by omega) hrb)) rfl rfl (by decide) ⟨by decide +kernel, by decide +kernel⟩ dX0_copy_40 ?_
              refine z_xcatch (E := "java/lang/ArrayStoreException") gX [(17, 49, 50, 113), (17, 49, 58, 123), (17, 49, 66, 125)] htabX [⟨17, 49, 50, 113⟩] ⟨17, 49, 58, 123⟩ [⟨17, 49, 66, 125⟩] rfl (List.forall_mem_cons.mpr ⟨Or.inr ⟨by decide, "java/lang/NullPointerException", gX.ts _ q368, gX.zk.nc (fun _ _ h => flat_of_before _ h _ (by decide +kernel))⟩, fun _ h => absurd h List.not_mem_nil⟩) (by decide) (by decide) q427 (va_any rfl (gX.zk.cast q439)) (fun x_40 hx_40 => ?_)
              refine z_astore (pc := 58) gX [1, 2, 3, 4, 5, 6, 0] [(0, .ref o), (1, .int (nI i)), (2, .int i_), (3, .int (nI i2)), (4, .int j_), (5, .int m), (6, .ref x_40)] dX0_copy_58 (by decide) rfl ?_
              refine z_aload_n (pc := 60) gX 0 dX0_copy_60 rfl rfl ?_
              refine z_iconst (pc := 61) gX 5 dX0_copy_61 (by decide) ?_
              refine z_cMV (pc := 62) gX hAX [.int 5] [] [0] [1, 2] (fun A1 => met_X0_found l D B0 A1 o ad sa sb tr x 5 ) q358 q360 qs3 q47 q361 (zm 0 rfl) (ci := 0) rfl rfl hd_X0_found ⟨rfl, rfl⟩ ⟨(Nat.le_of_ble_eq_true rfl), (Nat.le_of_ble_eq_true rfl)⟩ rfl rfl rfl rfl rfl (Nat.le_of_ble_eq_true rfl) ⟨(Nat.le_of_ble_eq_true rfl), (Nat.le_of_ble_eq_true rfl)⟩ dX0_copy_62 ?_
              intro _ hu62
              refine z_re [0, 1, 2] [cOb o ad (sa 0) (sb 0) tr (upd x 3 5), [(ad 0, .inl (D.1 105, 8, .inr (.inr (.inr (.inr (rF sh 8))))))], slP D sh rw 8] rfl rfl ?_
              refine z_eq (lv₂ := [(0, .ref o), (1, .int (nI i)), (2, .int i_), (3, .int (nI i2)), (4, .int j_), (5, .int m), (6, .ref x_40)]) (st₂ := [.int (-1000010 - 5)]) ?_ rfl rfl
              exact z_rim gX hQX (-1000010 - 5, mSt xm (-1000015), it, rw) (⟨by simp only [mCopy, k4, k11, Bool.and_self, if_true, nI_clamp (show i < 2 ^ 31 by omega), nI_clamp (show i2 < 2 ^ 31 by omega), hsz1, hsz2, hwd1, hwd2]; rw [if_neg (by intro z; rcases z with z | z <;> exact nI_pos (by omega) z), if_neg (by decide)] <;> rfl, hW⟩) rfl (by simp only [mSt_t, pk_us] <;> rfl) (by first | decide | omega) (by first | decide | omega) dX0_copy_65
    · skip
      have k11 : (mIn q 0 7) = false := bI_eq0 c11
      refine z_ldc (pc := 14) gX q350 dX0_copy_14 ?_
      exact z_rim gX hQX (-1000001, xm, it, rw) (⟨by simp [mCopy, k4, k11], hW⟩) rfl (by simp only [show upd x 3 (xm 0) = x by rw [← hx3]; exact upd_self _ _]) (by first | decide | omega) (by first | decide | omega) dX0_copy_16
theorem hd_X0_copy : zHd yX0_copy 5 := by unfold zHd; decide +kernel

