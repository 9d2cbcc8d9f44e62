set_option maxRecDepth 100000
/-! ROWS: row, set, drop -/
theorem z_drop {p : Program} {l : Launch} {e : Env} {R : Room} {s : State} {m : MethodId} {args : Array Value} {below : List Frame} {meth : Method} {c : Code} {Q : State → Prop} {nL : Nat} {D : va_G} {A : Nat → Prop} {cells slots pc : Nat} {lv : List (Nat × Value)} {st : List Value} {ws : List va_W} (ws' : List va_W) (h : ws'.flatten.Sublist ws.flatten) (k : zJ p l e R s m args below meth c Q nL (zI D A s ws') cells slots pc lv st) : zJ p l e R s m args below meth c Q nL (zI D A s ws) cells slots pc lv st := by
  intro H locs ls hI hl
  have hd := zD_iff.mp hI.2.1
  exact k H locs ls ⟨zP_mem hI.1 (fun q hq => h.subset hq), zD_iff.mpr ⟨(h.map _).nodup hd.1, fun q hq => hd.2 q (h.subset hq)⟩, hI.2.2⟩ hl
def setR (rw : Nat → rT) (i : Nat) (v : rT) : Nat → rT := fun j => if j = i then v else rw j
def slR (D : va_G) (sh : Nat → Nat) (rw : Nat → rT) (i : Nat) : va_W := gP (setG (fun j => shG D (sh j) (rw j)) i []) 8
theorem sl_o {D : va_G} {sh : Nat → Nat} {rw : Nat → rT} {i : Nat} (h : i < 8) : (slP D sh rw 8).Perm (shG D (sh i) (rw i) ++ slR D sh rw i) := gP_open (g := fun j => shG D (sh j) (rw j)) 8 h
theorem sl_on {D : va_G} {sh : Nat → Nat} {rw : Nat → rT} {i : Nat} (h : i < 8) (hr : rw i = none) : (slP D sh rw 8).Perm [[(sh i, .inr (1, [.null]))], slR D sh rw i].flatten := by
  have := sl_o (D := D) (sh := sh) (rw := rw) h
  rw [hr] at this
  simpa [shG, rwV, rwA] using this
theorem sl_os {D : va_G} {sh : Nat → Nat} {rw : Nat → rT} {i a w n : Nat} {f : Nat → Int32} (h : i < 8) (hr : rw i = some (a, w, n, f)) : (slP D sh rw 8).Perm [[(sh i, .inr (1, [.ref a]))], [(a, .inl (rwC D w, n, .inl f))], slR D sh rw i].flatten := by
  have := sl_o (D := D) (sh := sh) (rw := rw) h
  rw [hr] at this
  simpa [shG, rwV, rwA] using this
theorem sl_c {D : va_G} {sh : Nat → Nat} {rw : Nat → rT} {i : Nat} {v : rT} (h : i < 8) : (shG D (sh i) v ++ slR D sh rw i).Perm (slP D sh (setR rw i v) 8) := by
  have e : (fun j => shG D (sh j) (setR rw i v j)) = setG (fun j => shG D (sh j) (rw j)) i (shG D (sh i) v) := by
    funext j; simp only [setR, setG]
    by_cases q : j = i
    · rw [if_pos q, if_pos q, q]
    · rw [if_neg q, if_neg q]
  unfold slP
  rw [e]
  exact gP_close h
theorem sl_cn {D : va_G} {sh : Nat → Nat} {rw : Nat → rT} {i : Nat} (h : i < 8) : [[(sh i, (.inr (1, [.null]) : va_E))], slR D sh rw i].flatten.Perm (slP D sh (setR rw i none) 8) := by
  have := sl_c (D := D) (sh := sh) (rw := rw) (v := none) h
  simpa [shG, rwV, rwA] using this
theorem sl_cs {D : va_G} {sh : Nat → Nat} {rw : Nat → rT} {i a w n : Nat} {f : Nat → Int32} (h : i < 8) : [[(sh i, (.inr (1, [.ref a]) : va_E))], [(a, .inl (rwC D w, n, .inl f))], slR D sh rw i].flatten.Perm (slP D sh (setR rw i (some (a, w, n, f))) 8) := by
  have := sl_c (D := D) (sh := sh) (rw := rw) (v := some (a, w, n, f)) h
  simpa [shG, rwV, rwA] using this
theorem setR_id {rw : Nat → rT} {i : Nat} : setR rw i (rw i) = rw := by funext j; simp only [setR]; split <;> simp_all
/-- rows as the reference has them -/
def rwR (rw : Nat → rT) (sz wd it : Nat → Int32) : Prop := ∀ i, i < 8 → (sz i < 0 ∧ rw i = none) ∨ ∃ a w n f, rw i = some (a, w, n, f) ∧ w ≤ 2 ∧ n ≤ 40 ∧ sz i = nI n ∧ wd i = nI w ∧ ∀ j, j < n → f j = it (40 * i + j)
theorem rwR.none {rw : Nat → rT} {sz wd it : Nat → Int32} (h : rwR rw sz wd it) {i : Nat} (hi : i < 8) (hr : rw i = Option.none) : sz i < 0 := by
  rcases h i hi with ⟨h1, -⟩ | ⟨a, w, n, f, h1, -⟩
  · exact h1
  · rw [hr] at h1; cases h1
theorem rwR.some {rw : Nat → rT} {sz wd it : Nat → Int32} (h : rwR rw sz wd it) {i a w n : Nat} {f : Nat → Int32} (hi : i < 8) (hr : rw i = Option.some (a, w, n, f)) : w ≤ 2 ∧ n ≤ 40 ∧ sz i = nI n ∧ wd i = nI w ∧ ∀ j, j < n → f j = it (40 * i + j) := by
  rcases h i hi with ⟨-, h2⟩ | ⟨a1, w1, n1, f1, h1, h2⟩
  · rw [hr] at h2; cases h2
  · rw [hr] at h1; cases h1; exact h2
theorem rwR.row {rw : Nat → rT} {sz wd it : Nat → Int32} {i a w n : Nat} (h : rwR rw sz wd it) (hi : i < 8) (hw : w ≤ 2) (hn : n ≤ 40) : rwR (setR rw i (Option.some (a, w, n, fun _ => 0))) (upd sz i (nI n)) (upd wd i (nI w)) (zer it (40 * i) 40) := by
  intro j hj
  by_cases e : j = i
  · subst e
    refine Or.inr ⟨a, w, n, _, if_pos rfl, hw, hn, pk_us, pk_us, fun k hk => ?_⟩
    simp only [zer]; rw [if_pos (by omega)]
  · rcases h j hj with ⟨h1, h2⟩ | ⟨a1, w1, n1, f1, h1, h2, h3, h4, h5, h6⟩
    · exact Or.inl ⟨by rw [pk_un e]; exact h1, by rw [show setR rw i _ j = rw j from if_neg e]; exact h2⟩
    · refine Or.inr ⟨a1, w1, n1, f1, by rw [show setR rw i _ j = rw j from if_neg e]; exact h1, h2, h3, by rw [pk_un e]; exact h4, by rw [pk_un e]; exact h5, fun k hk => ?_⟩
      rw [h6 k hk]; simp only [zer]; rw [if_neg (by omega)]
theorem rwR.set {rw : Nat → rT} {sz wd it : Nat → Int32} {i a w n k : Nat} {f : Nat → Int32} {v : Int32} (h : rwR rw sz wd it) (hi : i < 8) (hr : rw i = Option.some (a, w, n, f)) (hk : k < n) : rwR (setR rw i (Option.some (a, w, n, upd f k v))) sz wd (upd it (40 * i + k) v) := by
  obtain ⟨g2, g3, g4, g5, g6⟩ := h.some hi hr
  intro j hj
  by_cases e : j = i
  · subst e
    refine Or.inr ⟨a, w, n, _, if_pos rfl, g2, g3, g4, g5, fun z hz => ?_⟩
    by_cases e2 : z = k
    · rw [e2, pk_us, pk_us]
    · rw [pk_un e2, pk_un (by omega)]; exact g6 z hz
  · rcases h j hj with ⟨h1, h2⟩ | ⟨a1, w1, n1, f1, h1, h2, h3, h4, h5, h6⟩
    · exact Or.inl ⟨h1, by rw [show setR rw i _ j = rw j from if_neg e]; exact h2⟩
    · refine Or.inr ⟨a1, w1, n1, f1, by rw [show setR rw i _ j = rw j from if_neg e]; exact h1, h2, h3, h4, h5, fun z hz => ?_⟩
      rw [h6 z hz, pk_un (by omega)]
theorem rwR.drop {rw : Nat → rT} {sz wd it : Nat → Int32} {i : Nat} (h : rwR rw sz wd it) : rwR (setR rw i Option.none) (upd sz i (-1)) wd it := by
  intro j hj
  by_cases e : j = i
  · subst e
    exact Or.inl ⟨by rw [pk_us]; decide, if_pos rfl⟩
  · rcases h j hj with ⟨h1, h2⟩ | ⟨a1, w1, n1, f1, h1, h2, h3, h4, h5, h6⟩
    · exact Or.inl ⟨by rw [pk_un e]; exact h1, by rw [show setR rw i _ j = rw j from if_neg e]; exact h2⟩
    · exact Or.inr ⟨a1, w1, n1, f1, by rw [show setR rw i _ j = rw j from if_neg e]; exact h1, h2, h3, by rw [pk_un e]; exact h4, h5, h6⟩
theorem nneg (n : Int32) : n < 0 ∨ ∃ j : Nat, j < 2 ^ 31 ∧ n = nI j := by
  by_cases h : n < 0
  · exact Or.inl h
  · exact Or.inr (nI_of h)
theorem mSt_0 {x : Nat → Int32} {n : Nat} (h : n ≤ 40) : mSt x (nI n) = upd x 0 0 := by
  have : ∀ n : Nat, n ≤ 40 → mIn (nI n) (-1000015) (-1000011) = false := by decide +kernel
  simp only [mSt, this n h]; rfl
theorem mSt_n {x : Nat → Int32} : mSt x (-1000011) = upd x 0 1 := rfl
theorem mSt_p {x : Nat → Int32} : mSt x (-1000012) = upd x 0 2 := rfl
theorem mSt_z {x : Nat → Int32} : mSt x (-1000014) = upd x 0 4 := rfl
theorem lies1 {n : Nat} {i : Int32} (hn : n ≤ 40) : (vp_in i n ∧ ∃ j, j < n ∧ i = nI j ∧ mLies (nI n) i 1 = true) ∨ (¬ vp_in i n ∧ mLies (nI n) i 1 = false) := by
  by_cases h : i < 0
  · right
    refine ⟨fun z => z (Or.inl h), ?_⟩
    simp only [mLies, decide_eq_false (Int32.not_le.mpr h), Bool.false_and]
  · obtain ⟨j, hj, rfl⟩ := nI_of h
    have hc : (nI j).toNatClampNeg = j := nI_clamp hj
    by_cases hl : j < n
    · left
      refine ⟨fun z => by rcases z with z | z; exact h z; rw [hc] at z; omega, j, hl, rfl, ?_⟩
      have : ∀ n : Nat, n ≤ 40 → ∀ j : Nat, j < n → mLies (nI n) (nI j) 1 = true := by decide +kernel
      exact this n hn j hl
    · right
      refine ⟨fun z => z (Or.inr (by rw [hc]; omega)), ?_⟩
      have e1 : decide (nI j ≤ nI n - 1) = false := by
        cases n with
        | zero =>
          apply decide_eq_false
          intro z
          exact h (Int32.lt_of_le_of_lt z (by decide))
        | succ n =>
          rw [nI_pred]
          apply decide_eq_false
          intro z
          have := (zn_le (a := j) (b := n) (by omega) (by omega)).mp z
          omega
      simp only [mLies, e1, Bool.and_false]

set_option maxHeartbeats 4000000 in
theorem met_X0_row (l : Launch) (D : va_G) (B0 : Nat) (A : Nat → Prop) (o : Nat) (ad : Nat → Nat) (sa : Nat → Nat) (sb : Nat → Nat) (tr : Nat) (x : Nat → Int32) (sh : Nat → Nat) (rw : Nat → rT) (xm : Nat → Int32) (sz : Nat → Int32) (wd : Nat → Int32) (it : Nat → Int32) (row : Int32) (w : Int32) (n : Int32) (hl : l.stackTraces = false) (hx3 : x 3 = xm 0) (hW : rwR rw sz wd it) : Met l yX0_row (wsW_ yX0_row cX0_row 5 (some .int) [(28, 47, 48, 104)]) (zRm 172 3 60) (va_Pc [.ref o, .int row, .int w, .int n] (zPre B0 D A [cOb o ad (sa 0) (sb 0) tr x, [(ad 0, .inl (D.1 105, 8, .inr (.inr (.inr (.inr (rF sh 8))))))], slP D sh rw 8])) (zQ (S := Int32 × (Nat → Int32) × (Nat → Int32) × (Nat → Int32) × (Nat → Int32) × (Nat → rT)) (fun u => (fun (r_ : Int32) (xm1 : Nat → Int32) (sz1 : Nat → Int32) (wd1 : Nat → Int32) (it1 : Nat → Int32) (rw1 : Nat → rT) => (r_, xm1, sz1, wd1, it1) = mRow xm sz wd it row w n ∧ rwR rw1 sz1 wd1 it1) u.1 u.2.1 u.2.2.1 u.2.2.2.1 u.2.2.2.2.1 u.2.2.2.2.2) (fun u => (fun (r_ : Int32) (xm1 : Nat → Int32) (sz1 : Nat → Int32) (wd1 : Nat → Int32) (it1 : Nat → Int32) (rw1 : Nat → rT) => some (.int r_)) u.1 u.2.1 u.2.2.1 u.2.2.2.1 u.2.2.2.2.1 u.2.2.2.2.2) (fun u => (fun (r_ : Int32) (xm1 : Nat → Int32) (sz1 : Nat → Int32) (wd1 : Nat → Int32) (it1 : Nat → Int32) (rw1 : Nat → rT) => [cOb o ad (sa 0) (sb 0) tr (upd x 3 (xm1 0)), [(ad 0, .inl (D.1 105, 8, .inr (.inr (.inr (.inr (rF sh 8))))))], slP D sh rw1 8]) u.1 u.2.1 u.2.2.1 u.2.2.2.1 u.2.2.2.2.1 u.2.2.2.2.2) D A) 3 60 A := by
  refine z_entryW (by decide +kernel) (Nat.le_of_ble_eq_true rfl) (fun pX eX sX mX argsX blX mtX cX QX hQX gX hAX hnm htabX => ?_)
  refine z_eq (lv₂ := [(0, .ref o), (1, .int row), (2, .int w), (3, .int n)]) (st₂ := []) ?_ rfl rfl
  refine z_iload_n (pc := 0) gX 1 dX0_row_0 rfl rfl ?_
  refine z_cOS (pc := 1) gX (zI_ok gX hAX) [.int row] [] [] (met_X0_isRow l D B0 row ) q342 q343 q47 q344 hd_X0_isRow ⟨rfl, rfl⟩ ⟨(Nat.le_of_ble_eq_true rfl), (Nat.le_of_ble_eq_true rfl)⟩ rfl rfl rfl (Nat.le_of_ble_eq_true rfl) ⟨(Nat.le_of_ble_eq_true rfl), (Nat.le_of_ble_eq_true rfl)⟩ dX0_row_1 ?_
  intro _ hu1
  refine z_eq (lv₂ := [(0, .ref o), (1, .int row), (2, .int w), (3, .int n)]) (st₂ := [.int (bI (mIn row 0 7))]) ?_ rfl rfl
  refine z_if_eq (pc := 4) gX 25 dX0_row_4 (by decide) (fun c4 => ?_) (fun c4 => ?_)
  · skip
    have k4 : (mIn row 0 7) = false := bI_eq0 c4
    refine z_ldc (pc := 25) gX q350 dX0_row_25 ?_
    exact z_rim gX hQX (-1000001, xm, sz, wd, it, rw) (⟨by simp [mRow, k4], hW⟩) rfl (by simp only [show upd x 3 (xm 0) = x by rw [← hx3]; exact upd_self _ _]) (by first | decide | omega) (by first | decide | omega) dX0_row_27
  · skip
    have k4 : (mIn row 0 7) = true := bI_ne0 c4
    refine z_iload_n (pc := 7) gX 2 dX0_row_7 rfl rfl ?_
    refine z_i2l (pc := 8) gX dX0_row_8 ?_
    refine z_lconst (pc := 9) gX 0 dX0_row_9 rfl ?_
    refine z_ldc2_w (pc := 10) gX q349 dX0_row_10 ?_
    refine z_cOS (pc := 13) gX (zI_ok gX hAX) [.long w.toInt64, .long 0, .long 2] [] [] (met_X0_isIn l D B0 w.toInt64 0 2 ) q346 q347 q47 q348 hd_X0_isIn ⟨rfl, rfl⟩ ⟨(Nat.le_of_ble_eq_true rfl), (Nat.le_of_ble_eq_true rfl)⟩ rfl rfl rfl (Nat.le_of_ble_eq_true rfl) ⟨(Nat.le_of_ble_eq_true rfl), (Nat.le_of_ble_eq_true rfl)⟩ dX0_row_13 ?_
    intro _ hu13
    refine z_eq (lv₂ := [(0, .ref o), (1, .int row), (2, .int w), (3, .int n)]) (st₂ := [.int (bI (lIn w.toInt64 0 2))]) ?_ rfl rfl
    refine z_top (bI (mIn w 0 2)) (congrArg bI (lIn_eq rfl (by decide) (by decide))) ?_
    refine z_if_eq (pc := 16) gX 25 dX0_row_16 (by decide) (fun c16 => ?_) (fun c16 => ?_)
    · skip
      have k16 : (mIn w 0 2) = false := bI_eq0 c16
      refine z_ldc (pc := 25) gX q350 dX0_row_25 ?_
      exact z_rim gX hQX (-1000001, xm, sz, wd, it, rw) (⟨by simp [mRow, k4, k16], hW⟩) rfl (by simp only [show upd x 3 (xm 0) = x by rw [← hx3]; exact upd_self _ _]) (by first | decide | omega) (by first | decide | omega) dX0_row_27
    · skip
      have k16 : (mIn w 0 2) = true := bI_ne0 c16
      refine z_iload_n (pc := 19) gX 3 dX0_row_19 rfl rfl ?_
      refine z_bipush (pc := 20) gX 40 dX0_row_20 (by decide) ?_
      refine z_icmp_le (pc := 22) gX 28 dX0_row_22 (by decide) (fun c22 => ?_) (fun c22 => ?_)
      · skip
        obtain ⟨i, hi, rfl⟩ := mIn_nat k4 7 (by decide)
        obtain ⟨w0, hw0, rfl⟩ := mIn_nat k16 2 (by decide)
        rcases nneg n with hneg | ⟨n0, hn31, rfl⟩
        · skip
          refine z_aload_n (pc := 28) gX 0 dX0_row_28 rfl rfl ?_
          refine z_get (pc := 29) gX (zI_ok gX hAX) (zm 0 rfl) (ci := 0) (C := RX0) (T := TX0) (N := 14) rfl in_X0 0 (by decide) q207 (fun _ h => h) (v := .ref (ad 0)) rfl dX0_row_29 ?_
          refine z_iload_n (pc := 32) gX 1 dX0_row_32 rfl rfl ?_
          refine z_ald (pc := 33) gX (zI_ok gX hAX) (j := i) (n := 8) (f := (rF sh 8)) (zm 1 rfl) 5 rfl (by omega) (by decide) (sh i) (rF_lt (by omega)) dX0_row_33 ?_
          refine z_iload_n (pc := 34) gX 2 dX0_row_34 rfl rfl ?_
          refine z_iload_n (pc := 35) gX 3 dX0_row_35 rfl rfl ?_
          refine z_xS (pc := 36) gX hAX [.int (nI w0), .int n] [.ref (sh i)] [] [0, 1, 2] (fun A1 => met_X0_newLaneZ l D B0 A1 (nI w0) n (by first | assumption | omega) hneg) q351 q352 q47 q353 hd_X0_newLane ⟨rfl, rfl⟩ ⟨(Nat.le_of_ble_eq_true rfl), (Nat.le_of_ble_eq_true rfl)⟩ rfl rfl rfl rfl rfl (Nat.le_of_ble_eq_true rfl) ⟨(Nat.le_of_ble_eq_true rfl), (Nat.le_of_ble_eq_true rfl)⟩ dX0_row_36 (fun E_36 u_36 => ?_) (fun _ hF => hF.elim)
          refine z_xpx (E0 := "java/lang/NegativeArraySizeException") (PX1 := fun q_ => True) (fun _ h => h) ?_
          refine z_xper [0, 1, 2] [cOb o ad (sa 0) (sb 0) tr x, [(ad 0, .inl (D.1 105, 8, .inr (.inr (.inr (.inr (rF sh 8))))))], slP D sh rw 8] rfl rfl ?_
          refine z_xcatch (E := "java/lang/NegativeArraySizeException") gX [(28, 47, 48, 104)] htabX [] ⟨28, 47, 48, 104⟩ [] rfl (fun _ h => absurd h List.not_mem_nil) (by decide) (by decide) q256 (va_any rfl (gX.zk.cast q320)) (fun x_36 hx_36 => ?_)
          refine z_astore (pc := 48) gX [1, 2, 3, 4, 0] [(0, .ref o), (1, .int (nI i)), (2, .int (nI w0)), (3, .int n), (4, .ref x_36)] dX0_row_48 (by decide) rfl ?_
          refine z_aload_n (pc := 50) gX 0 dX0_row_50 rfl rfl ?_
          refine z_iconst (pc := 51) gX 4 dX0_row_51 (by decide) ?_
          refine z_cMV (pc := 52) gX hAX [.int 4] [] [0] [1, 2] (fun A1 => met_X0_found l D B0 A1 o ad sa sb tr x 4 ) q358 q360 qs3 q47 q361 (zm 0 rfl) (ci := 0) rfl rfl hd_X0_found ⟨rfl, rfl⟩ ⟨(Nat.le_of_ble_eq_true rfl), (Nat.le_of_ble_eq_true rfl)⟩ rfl rfl rfl rfl rfl (Nat.le_of_ble_eq_true rfl) ⟨(Nat.le_of_ble_eq_true rfl), (Nat.le_of_ble_eq_true rfl)⟩ dX0_row_52 ?_
          intro _ hu52
          refine z_re [0, 1, 2] [cOb o ad (sa 0) (sb 0) tr (upd x 3 4), [(ad 0, .inl (D.1 105, 8, .inr (.inr (.inr (.inr (rF sh 8))))))], slP D sh rw 8] rfl rfl ?_
          refine z_eq (lv₂ := [(0, .ref o), (1, .int (nI i)), (2, .int (nI w0)), (3, .int n), (4, .ref x_36)]) (st₂ := [.int (-1000010 - 4)]) ?_ rfl rfl
          exact z_rim gX hQX (-1000010 - 4, mSt xm (-1000014), sz, wd, it, rw) (⟨by simp only [mRow, k4, k16, decide_eq_true c22, Bool.and_self, if_true]; rw [if_pos hneg] <;> rfl, hW⟩) rfl (by simp only [mSt_z, pk_us] <;> rfl) (by first | decide | omega) (by first | decide | omega) dX0_row_55
        · skip
          have hn0 : n0 ≤ 40 := (zn_le (a := n0) (b := 40) (by omega) (by omega)).mp c22
          refine z_aload_n (pc := 28) gX 0 dX0_row_28 rfl rfl ?_
          rcases (show w0 = 0 ∨ w0 = 1 ∨ w0 = 2 by omega) with rfl | rfl | rfl
          · skip
            refine z_get (pc := 29) gX (zI_ok gX hAX) (zm 0 rfl) (ci := 0) (C := RX0) (T := TX0) (N := 14) rfl in_X0 0 (by decide) q207 (fun _ h => h) (v := .ref (ad 0)) rfl dX0_row_29 ?_
            refine z_iload_n (pc := 32) gX 1 dX0_row_32 rfl rfl ?_
            rcases hrr : rw i with _ | ⟨a, w9, n9, f9⟩
            · skip
              refine z_ws [cOb o ad (sa 0) (sb 0) tr x, [(ad 0, .inl (D.1 105, 8, .inr (.inr (.inr (.inr (rF sh 8))))))], [(sh i, .inr (1, [.null]))], slR D sh rw i] (sg_perm [[(sh i, .inr (1, [.null]))], slR D sh rw i] 2 rfl rfl (sl_on (D := D) (sh := sh) (rw := rw) (i := i) (by omega) hrr)) ?_
              refine z_ald (pc := 33) gX (zI_ok gX hAX) (j := i) (n := 8) (f := (rF sh 8)) (zm 1 rfl) 5 rfl (by omega) (by decide) (sh i) (rF_lt (by omega)) dX0_row_33 ?_
              refine z_iload_n (pc := 34) gX 2 dX0_row_34 rfl rfl ?_
              refine z_iload_n (pc := 35) gX 3 dX0_row_35 rfl rfl ?_
              refine z_cMS (pc := 36) gX hAX [.int (nI 0), .int (nI n0)] [.ref (sh i)] [] [0, 1, 2, 3] (fun A1 => met_X0_newLane_0 l D B0 A1 n0 hn0) q351 q352 q47 q353 hd_X0_newLane ⟨rfl, rfl⟩ ⟨(Nat.le_of_ble_eq_true rfl), (Nat.le_of_ble_eq_true rfl)⟩ rfl rfl rfl rfl rfl (Nat.le_of_ble_eq_true rfl) ⟨(Nat.le_of_ble_eq_true rfl), (Nat.le_of_ble_eq_true rfl)⟩ dX0_row_36 ?_
              intro u36 hu36
              obtain ⟨q_36, rfl⟩ : ∃ z, z = u36 := ⟨_, rfl⟩
              refine z_re [1, 2, 3, 0, 4] [cOb o ad (sa 0) (sb 0) tr x, [(ad 0, .inl (D.1 105, 8, .inr (.inr (.inr (.inr (rF sh 8))))))], [(sh i, .inr (1, [.null]))], [(q_36, .inl (D.1 101, n0, .inl (fun _ => 0)))], slR D sh rw i] rfl rfl ?_
              refine z_norm [cOb o ad (sa 0) (sb 0) tr x, [(ad 0, .inl (D.1 105, 8, .inr (.inr (.inr (.inr (rF sh 8))))))], [(sh i, .inr (1, [.null]))], [(q_36, .inl (D.1 101, n0, .inl (fun _ => 0)))], slR D sh rw i] 1 40 ?_ rfl rfl rfl
              refine z_eq (lv₂ := [(0, .ref o), (1, .int (nI i)), (2, .int (nI 0)), (3, .int (nI n0))]) (st₂ := [.ref q_36, .ref (sh i)]) ?_ rfl rfl
              refine z_putN (pc := 39) gX hAX 2 rfl (ci := 1) (C := RX1) (T := TX1) (N := 1) rfl in_X1 tyX1 tyX1_ok nmX1 0 (by decide) (zm 1 rfl) (fun _ h => h) rfl (v := .ref q_36) rfl rfl (Nat.le_of_ble_eq_true rfl) [cOb o ad (sa 0) (sb 0) tr x, [(ad 0, .inl (D.1 105, 8, .inr (.inr (.inr (.inr (rF sh 8))))))], [(sh i, .inr (1, [.ref q_36]))], [(q_36, .inl (D.1 101, n0, .inl (fun _ => 0)))], slR D sh rw i] rfl dX0_row_39 ?_
              refine z_ws [cOb o ad (sa 0) (sb 0) tr x, [(ad 0, .inl (D.1 105, 8, .inr (.inr (.inr (.inr (rF sh 8))))))], slP D sh (setR rw i (some (q_36, 0, n0, fun _ => 0))) 8] (gs_perm (slP D sh (setR rw i (some (q_36, 0, n0, fun _ => 0))) 8) 2 3 rfl (sl_cs (D := D) (sh := sh) (rw := rw) (i := i) (a := q_36) (w := 0) (n := n0) (f := fun _ => 0) (by omega))) ?_
              refine z_aload_n (pc := 42) gX 0 dX0_row_42 rfl rfl ?_
              refine z_iload_n (pc := 43) gX 3 dX0_row_43 rfl rfl ?_
              refine z_cMV (pc := 44) gX hAX [.int (nI n0)] [] [0] [1, 2] (fun A1 => met_X0_well l D B0 A1 o ad sa sb tr x (nI n0) ) q354 q356 qs2 q47 q357 (zm 0 rfl) (ci := 0) rfl rfl hd_X0_well ⟨rfl, rfl⟩ ⟨(Nat.le_of_ble_eq_true rfl), (Nat.le_of_ble_eq_true rfl)⟩ rfl rfl rfl rfl rfl (Nat.le_of_ble_eq_true rfl) ⟨(Nat.le_of_ble_eq_true rfl), (Nat.le_of_ble_eq_true rfl)⟩ dX0_row_44 ?_
              intro _ hu44
              refine z_re [0, 1, 2] [cOb o ad (sa 0) (sb 0) tr (upd x 3 0), [(ad 0, .inl (D.1 105, 8, .inr (.inr (.inr (.inr (rF sh 8))))))], slP D sh (setR rw i (some (q_36, 0, n0, fun _ => 0))) 8] rfl rfl ?_
              refine z_eq (lv₂ := [(0, .ref o), (1, .int (nI i)), (2, .int (nI 0)), (3, .int (nI n0))]) (st₂ := [.int (nI n0)]) ?_ rfl rfl
              exact z_rim gX hQX (nI n0, mSt xm (nI n0), upd sz i (nI n0), upd wd i (nI 0), zer it (40 * i) 40, setR rw i (some (q_36, 0, n0, fun _ => 0))) (⟨by simp only [mRow, k4, k16, decide_eq_true c22, Bool.and_self, if_true, nI_clamp (show i < 2 ^ 31 by omega)]; rw [if_neg (nI_pos (by omega))], hW.row (by omega) (by omega) hn0⟩) rfl (by simp only [mSt_0 hn0, pk_us]) (by first | decide | omega) (by first | decide | omega) dX0_row_47
            · skip
              refine z_ws [cOb o ad (sa 0) (sb 0) tr x, [(ad 0, .inl (D.1 105, 8, .inr (.inr (.inr (.inr (rF sh 8))))))], [(sh i, .inr (1, [.ref a]))], [(a, .inl (rwC D w9, n9, .inl f9))], slR D sh rw i] (sg_perm [[(sh i, .inr (1, [.ref a]))], [(a, .inl (rwC D w9, n9, .inl f9))], slR D sh rw i] 2 rfl rfl (sl_os (D := D) (sh := sh) (rw := rw) (i := i) (by omega) hrr)) ?_
              refine z_ald (pc := 33) gX (zI_ok gX hAX) (j := i) (n := 8) (f := (rF sh 8)) (zm 1 rfl) 5 rfl (by omega) (by decide) (sh i) (rF_lt (by omega)) dX0_row_33 ?_
              refine z_iload_n (pc := 34) gX 2 dX0_row_34 rfl rfl ?_
              refine z_iload_n (pc := 35) gX 3 dX0_row_35 rfl rfl ?_
              refine z_cMS (pc := 36) gX hAX [.int (nI 0), .int (nI n0)] [.ref (sh i)] [] [0, 1, 2, 3, 4] (fun A1 => met_X0_newLane_0 l D B0 A1 n0 hn0) q351 q352 q47 q353 hd_X0_newLane ⟨rfl, rfl⟩ ⟨(Nat.le_of_ble_eq_true rfl), (Nat.le_of_ble_eq_true rfl)⟩ rfl rfl rfl rfl rfl (Nat.le_of_ble_eq_true rfl) ⟨(Nat.le_of_ble_eq_true rfl), (Nat.le_of_ble_eq_true rfl)⟩ dX0_row_36 ?_
              intro u36 hu36
              obtain ⟨q_36, rfl⟩ : ∃ z, z = u36 := ⟨_, rfl⟩
              refine z_re [1, 2, 3, 0, 4, 5] [cOb o ad (sa 0) (sb 0) tr x, [(ad 0, .inl (D.1 105, 8, .inr (.inr (.inr (.inr (rF sh 8))))))], [(sh i, .inr (1, [.ref a]))], [(q_36, .inl (D.1 101, n0, .inl (fun _ => 0)))], [(a, .inl (rwC D w9, n9, .inl f9))], slR D sh rw i] rfl rfl ?_
              refine z_norm [cOb o ad (sa 0) (sb 0) tr x, [(ad 0, .inl (D.1 105, 8, .inr (.inr (.inr (.inr (rF sh 8))))))], [(sh i, .inr (1, [.ref a]))], [(q_36, .inl (D.1 101, n0, .inl (fun _ => 0)))], [(a, .inl (rwC D w9, n9, .inl f9))], slR D sh rw i] 1 40 ?_ rfl rfl rfl
              refine z_eq (lv₂ := [(0, .ref o), (1, .int (nI i)), (2, .int (nI 0)), (3, .int (nI n0))]) (st₂ := [.ref q_36, .ref (sh i)]) ?_ rfl rfl
              refine z_putN (pc := 39) gX hAX 2 rfl (ci := 1) (C := RX1) (T := TX1) (N := 1) rfl in_X1 tyX1 tyX1_ok nmX1 0 (by decide) (zm 1 rfl) (fun _ h => h) rfl (v := .ref q_36) rfl rfl (Nat.le_of_ble_eq_true rfl) [cOb o ad (sa 0) (sb 0) tr x, [(ad 0, .inl (D.1 105, 8, .inr (.inr (.inr (.inr (rF sh 8))))))], [(sh i, .inr (1, [.ref q_36]))], [(q_36, .inl (D.1 101, n0, .inl (fun _ => 0)))], [(a, .inl (rwC D w9, n9, .inl f9))], slR D sh rw i] rfl dX0_row_39 ?_
              refine z_re [0, 1, 2, 3, 5, 4] [cOb o ad (sa 0) (sb 0) tr x, [(ad 0, .inl (D.1 105, 8, .inr (.inr (.inr (.inr (rF sh 8))))))], [(sh i, .inr (1, [.ref q_36]))], [(q_36, .inl (D.1 101, n0, .inl (fun _ => 0)))], slR D sh rw i, [(a, .inl (rwC D w9, n9, .inl f9))]] rfl rfl ?_
              refine z_drop [cOb o ad (sa 0) (sb 0) tr x, [(ad 0, .inl (D.1 105, 8, .inr (.inr (.inr (.inr (rF sh 8))))))], [(sh i, .inr (1, [.ref q_36]))], [(q_36, .inl (D.1 101, n0, .inl (fun _ => 0)))], slR D sh rw i] (by simp only [List.flatten_cons, List.flatten_nil, List.append_nil, ← List.append_assoc]; exact List.sublist_append_left _ _) ?_
              refine z_ws [cOb o ad (sa 0) (sb 0) tr x, [(ad 0, .inl (D.1 105, 8, .inr (.inr (.inr (.inr (rF sh 8))))))], slP D sh (setR rw i (some (q_36, 0, n0, fun _ => 0))) 8] (gs_perm (slP D sh (setR rw i (some (q_36, 0, n0, fun _ => 0))) 8) 2 3 rfl (sl_cs (D := D) (sh := sh) (rw := rw) (i := i) (a := q_36) (w := 0) (n := n0) (f := fun _ => 0) (by omega))) ?_
              refine z_aload_n (pc := 42) gX 0 dX0_row_42 rfl rfl ?_
              refine z_iload_n (pc := 43) gX 3 dX0_row_43 rfl rfl ?_
              refine z_cMV (pc := 44) gX hAX [.int (nI n0)] [] [0] [1, 2] (fun A1 => met_X0_well l D B0 A1 o ad sa sb tr x (nI n0) ) q354 q356 qs2 q47 q357 (zm 0 rfl) (ci := 0) rfl rfl hd_X0_well ⟨rfl, rfl⟩ ⟨(Nat.le_of_ble_eq_true rfl), (Nat.le_of_ble_eq_true rfl)⟩ rfl rfl rfl rfl rfl (Nat.le_of_ble_eq_true rfl) ⟨(Nat.le_of_ble_eq_true rfl), (Nat.le_of_ble_eq_true rfl)⟩ dX0_row_44 ?_
              intro _ hu44
              refine z_re [0, 1, 2] [cOb o ad (sa 0) (sb 0) tr (upd x 3 0), [(ad 0, .inl (D.1 105, 8, .inr (.inr (.inr (.inr (rF sh 8))))))], slP D sh (setR rw i (some (q_36, 0, n0, fun _ => 0))) 8] rfl rfl ?_
              refine z_eq (lv₂ := [(0, .ref o), (1, .int (nI i)), (2, .int (nI 0)), (3, .int (nI n0))]) (st₂ := [.int (nI n0)]) ?_ rfl rfl
              exact z_rim gX hQX (nI n0, mSt xm (nI n0), upd sz i (nI n0), upd wd i (nI 0), zer it (40 * i) 40, setR rw i (some (q_36, 0, n0, fun _ => 0))) (⟨by simp only [mRow, k4, k16, decide_eq_true c22, Bool.and_self, if_true, nI_clamp (show i < 2 ^ 31 by omega)]; rw [if_neg (nI_pos (by omega))], hW.row (by omega) (by omega) hn0⟩) rfl (by simp only [mSt_0 hn0, pk_us]) (by first | decide | omega) (by first | decide | omega) dX0_row_47
          · skip
            refine z_get (pc := 29) gX (zI_ok gX hAX) (zm 0 rfl) (ci := 0) (C := RX0) (T := TX0) (N := 14) rfl in_X0 0 (by decide) q207 (fun _ h => h) (v := .ref (ad 0)) rfl dX0_row_29 ?_
            refine z_iload_n (pc := 32) gX 1 dX0_row_32 rfl rfl ?_
            rcases hrr : rw i with _ | ⟨a, w9, n9, f9⟩
            · skip
              refine z_ws [cOb o ad (sa 0) (sb 0) tr x, [(ad 0, .inl (D.1 105, 8, .inr (.inr (.inr (.inr (rF sh 8))))))], [(sh i, .inr (1, [.null]))], slR D sh rw i] (sg_perm [[(sh i, .inr (1, [.null]))], slR D sh rw i] 2 rfl rfl (sl_on (D := D) (sh := sh) (rw := rw) (i := i) (by omega) hrr)) ?_
              refine z_ald (pc := 33) gX (zI_ok gX hAX) (j := i) (n := 8) (f := (rF sh 8)) (zm 1 rfl) 5 rfl (by omega) (by decide) (sh i) (rF_lt (by omega)) dX0_row_33 ?_
              refine z_iload_n (pc := 34) gX 2 dX0_row_34 rfl rfl ?_
              refine z_iload_n (pc := 35) gX 3 dX0_row_35 rfl rfl ?_
              refine z_cMS (pc := 36) gX hAX [.int (nI 1), .int (nI n0)] [.ref (sh i)] [] [0, 1, 2, 3] (fun A1 => met_X0_newLane_1 l D B0 A1 n0 hn0) q351 q352 q47 q353 hd_X0_newLane ⟨rfl, rfl⟩ ⟨(Nat.le_of_ble_eq_true rfl), (Nat.le_of_ble_eq_true rfl)⟩ rfl rfl rfl rfl rfl (Nat.le_of_ble_eq_true rfl) ⟨(Nat.le_of_ble_eq_true rfl), (Nat.le_of_ble_eq_true rfl)⟩ dX0_row_36 ?_
              intro u36 hu36
              obtain ⟨q_36, rfl⟩ : ∃ z, z = u36 := ⟨_, rfl⟩
              refine z_re [1, 2, 3, 0, 4] [cOb o ad (sa 0) (sb 0) tr x, [(ad 0, .inl (D.1 105, 8, .inr (.inr (.inr (.inr (rF sh 8))))))], [(sh i, .inr (1, [.null]))], [(q_36, .inl (D.1 102, n0, .inl (fun _ => 0)))], slR D sh rw i] rfl rfl ?_
              refine z_norm [cOb o ad (sa 0) (sb 0) tr x, [(ad 0, .inl (D.1 105, 8, .inr (.inr (.inr (.inr (rF sh 8))))))], [(sh i, .inr (1, [.null]))], [(q_36, .inl (D.1 102, n0, .inl (fun _ => 0)))], slR D sh rw i] 1 40 ?_ rfl rfl rfl
              refine z_eq (lv₂ := [(0, .ref o), (1, .int (nI i)), (2, .int (nI 1)), (3, .int (nI n0))]) (st₂ := [.ref q_36, .ref (sh i)]) ?_ rfl rfl
              refine z_putN (pc := 39) gX hAX 2 rfl (ci := 1) (C := RX1) (T := TX1) (N := 1) rfl in_X1 tyX1 tyX1_ok nmX1 0 (by decide) (zm 1 rfl) (fun _ h => h) rfl (v := .ref q_36) rfl rfl (Nat.le_of_ble_eq_true rfl) [cOb o ad (sa 0) (sb 0) tr x, [(ad 0, .inl (D.1 105, 8, .inr (.inr (.inr (.inr (rF sh 8))))))], [(sh i, .inr (1, [.ref q_36]))], [(q_36, .inl (D.1 102, n0, .inl (fun _ => 0)))], slR D sh rw i] rfl dX0_row_39 ?_
              refine z_ws [cOb o ad (sa 0) (sb 0) tr x, [(ad 0, .inl (D.1 105, 8, .inr (.inr (.inr (.inr (rF sh 8))))))], slP D sh (setR rw i (some (q_36, 1, n0, fun _ => 0))) 8] (gs_perm (slP D sh (setR rw i (some (q_36, 1, n0, fun _ => 0))) 8) 2 3 rfl (sl_cs (D := D) (sh := sh) (rw := rw) (i := i) (a := q_36) (w := 1) (n := n0) (f := fun _ => 0) (by omega))) ?_
              refine z_aload_n (pc := 42) gX 0 dX0_row_42 rfl rfl ?_
              refine z_iload_n (pc := 43) gX 3 dX0_row_43 rfl rfl ?_
              refine z_cMV (pc := 44) gX hAX [.int (nI n0)] [] [0] [1, 2] (fun A1 => met_X0_well l D B0 A1 o ad sa sb tr x (nI n0) ) q354 q356 qs2 q47 q357 (zm 0 rfl) (ci := 0) rfl rfl hd_X0_well ⟨rfl, rfl⟩ ⟨(Nat.le_of_ble_eq_true rfl), (Nat.le_of_ble_eq_true rfl)⟩ rfl rfl rfl rfl rfl (Nat.le_of_ble_eq_true rfl) ⟨(Nat.le_of_ble_eq_true rfl), (Nat.le_of_ble_eq_true rfl)⟩ dX0_row_44 ?_
              intro _ hu44
              refine z_re [0, 1, 2] [cOb o ad (sa 0) (sb 0) tr (upd x 3 0), [(ad 0, .inl (D.1 105, 8, .inr (.inr (.inr (.inr (rF sh 8))))))], slP D sh (setR rw i (some (q_36, 1, n0, fun _ => 0))) 8] rfl rfl ?_
              refine z_eq (lv₂ := [(0, .ref o), (1, .int (nI i)), (2, .int (nI 1)), (3, .int (nI n0))]) (st₂ := [.int (nI n0)]) ?_ rfl rfl
              exact z_rim gX hQX (nI n0, mSt xm (nI n0), upd sz i (nI n0), upd wd i (nI 1), zer it (40 * i) 40, setR rw i (some (q_36, 1, n0, fun _ => 0))) (⟨by simp only [mRow, k4, k16, decide_eq_true c22, Bool.and_self, if_true, nI_clamp (show i < 2 ^ 31 by omega)]; rw [if_neg (nI_pos (by omega))], hW.row (by omega) (by omega) hn0⟩) rfl (by simp only [mSt_0 hn0, pk_us]) (by first | decide | omega) (by first | decide | omega) dX0_row_47
            · skip
              refine z_ws [cOb o ad (sa 0) (sb 0) tr x, [(ad 0, .inl (D.1 105, 8, .inr (.inr (.inr (.inr (rF sh 8))))))], [(sh i, .inr (1, [.ref a]))], [(a, .inl (rwC D w9, n9, .inl f9))], slR D sh rw i] (sg_perm [[(sh i, .inr (1, [.ref a]))], [(a, .inl (rwC D w9, n9, .inl f9))], slR D sh rw i] 2 rfl rfl (sl_os (D := D) (sh := sh) (rw := rw) (i := i) (by omega) hrr)) ?_
              refine z_ald (pc := 33) gX (zI_ok gX hAX) (j := i) (n := 8) (f := (rF sh 8)) (zm 1 rfl) 5 rfl (by omega) (by decide) (sh i) (rF_lt (by omega)) dX0_row_33 ?_
              refine z_iload_n (pc := 34) gX 2 dX0_row_34 rfl rfl ?_
              refine z_iload_n (pc := 35) gX 3 dX0_row_35 rfl rfl ?_
              refine z_cMS (pc := 36) gX hAX [.int (nI 1), .int (nI n0)] [.ref (sh i)] [] [0, 1, 2, 3, 4] (fun A1 => met_X0_newLane_1 l D B0 A1 n0 hn0) q351 q352 q47 q353 hd_X0_newLane ⟨rfl, rfl⟩ ⟨(Nat.le_of_ble_eq_true rfl), (Nat.le_of_ble_eq_true rfl)⟩ rfl rfl rfl rfl rfl (Nat.le_of_ble_eq_true rfl) ⟨(Nat.le_of_ble_eq_true rfl), (Nat.le_of_ble_eq_true rfl)⟩ dX0_row_36 ?_
              intro u36 hu36
              obtain ⟨q_36, rfl⟩ : ∃ z, z = u36 := ⟨_, rfl⟩
              refine z_re [1, 2, 3, 0, 4, 5] [cOb o ad (sa 0) (sb 0) tr x, [(ad 0, .inl (D.1 105, 8, .inr (.inr (.inr (.inr (rF sh 8))))))], [(sh i, .inr (1, [.ref a]))], [(q_36, .inl (D.1 102, n0, .inl (fun _ => 0)))], [(a, .inl (rwC D w9, n9, .inl f9))], slR D sh rw i] rfl rfl ?_
              refine z_norm [cOb o ad (sa 0) (sb 0) tr x, [(ad 0, .inl (D.1 105, 8, .inr (.inr (.inr (.inr (rF sh 8))))))], [(sh i, .inr (1, [.ref a]))], [(q_36, .inl (D.1 102, n0, .inl (fun _ => 0)))], [(a, .inl (rwC D w9, n9, .inl f9))], slR D sh rw i] 1 40 ?_ rfl rfl rfl
              refine z_eq (lv₂ := [(0, .ref o), (1, .int (nI i)), (2, .int (nI 1)), (3, .int (nI n0))]) (st₂ := [.ref q_36, .ref (sh i)]) ?_ rfl rfl
              refine z_putN (pc := 39) gX hAX 2 rfl (ci := 1) (C := RX1) (T := TX1) (N := 1) rfl in_X1 tyX1 tyX1_ok nmX1 0 (by decide) (zm 1 rfl) (fun _ h => h) rfl (v := .ref q_36) rfl rfl (Nat.le_of_ble_eq_true rfl) [cOb o ad (sa 0) (sb 0) tr x, [(ad 0, .inl (D.1 105, 8, .inr (.inr (.inr (.inr (rF sh 8))))))], [(sh i, .inr (1, [.ref q_36]))], [(q_36, .inl (D.1 102, n0, .inl (fun _ => 0)))], [(a, .inl (rwC D w9, n9, .inl f9))], slR D sh rw i] rfl dX0_row_39 ?_
              refine z_re [0, 1, 2, 3, 5, 4] [cOb o ad (sa 0) (sb 0) tr x, [(ad 0, .inl (D.1 105, 8, .inr (.inr (.inr (.inr (rF sh 8))))))], [(sh i, .inr (1, [.ref q_36]))], [(q_36, .inl (D.1 102, n0, .inl (fun _ => 0)))], slR D sh rw i, [(a, .inl (rwC D w9, n9, .inl f9))]] rfl rfl ?_
              refine z_drop [cOb o ad (sa 0) (sb 0) tr x, [(ad 0, .inl (D.1 105, 8, .inr (.inr (.inr (.inr (rF sh 8))))))], [(sh i, .inr (1, [.ref q_36]))], [(q_36, .inl (D.1 102, n0, .inl (fun _ => 0)))], slR D sh rw i] (by simp only [List.flatten_cons, List.flatten_nil, List.append_nil, ← List.append_assoc]; exact List.sublist_append_left _ _) ?_
              refine z_ws [cOb o ad (sa 0) (sb 0) tr x, [(ad 0, .inl (D.1 105, 8, .inr (.inr (.inr (.inr (rF sh 8))))))], slP D sh (setR rw i (some (q_36, 1, n0, fun _ => 0))) 8] (gs_perm (slP D sh (setR rw i (some (q_36, 1, n0, fun _ => 0))) 8) 2 3 rfl (sl_cs (D := D) (sh := sh) (rw := rw) (i := i) (a := q_36) (w := 1) (n := n0) (f := fun _ => 0) (by omega))) ?_
              refine z_aload_n (pc := 42) gX 0 dX0_row_42 rfl rfl ?_
              refine z_iload_n (pc := 43) gX 3 dX0_row_43 rfl rfl ?_
              refine z_cMV (pc := 44) gX hAX [.int (nI n0)] [] [0] [1, 2] (fun A1 => met_X0_well l D B0 A1 o ad sa sb tr x (nI n0) ) q354 q356 qs2 q47 q357 (zm 0 rfl) (ci := 0) rfl rfl hd_X0_well ⟨rfl, rfl⟩ ⟨(Nat.le_of_ble_eq_true rfl), (Nat.le_of_ble_eq_true rfl)⟩ rfl rfl rfl rfl rfl (Nat.le_of_ble_eq_true rfl) ⟨(Nat.le_of_ble_eq_true rfl), (Nat.le_of_ble_eq_true rfl)⟩ dX0_row_44 ?_
              intro _ hu44
              refine z_re [0, 1, 2] [cOb o ad (sa 0) (sb 0) tr (upd x 3 0), [(ad 0, .inl (D.1 105, 8, .inr (.inr (.inr (.inr (rF sh 8))))))], slP D sh (setR rw i (some (q_36, 1, n0, fun _ => 0))) 8] rfl rfl ?_
              refine z_eq (lv₂ := [(0, .ref o), (1, .int (nI i)), (2, .int (nI 1)), (3, .int (nI n0))]) (st₂ := [.int (nI n0)]) ?_ rfl rfl
              exact z_rim gX hQX (nI n0, mSt xm (nI n0), upd sz i (nI n0), upd wd i (nI 1), zer it (40 * i) 40, setR rw i (some (q_36, 1, n0, fun _ => 0))) (⟨by simp only [mRow, k4, k16, decide_eq_true c22, Bool.and_self, if_true, nI_clamp (show i < 2 ^ 31 by omega)]; rw [if_neg (nI_pos (by omega))], hW.row (by omega) (by omega) hn0⟩) rfl (by simp only [mSt_0 hn0, pk_us]) (by first | decide | omega) (by first | decide | omega) dX0_row_47
          · skip
            refine z_get (pc := 29) gX (zI_ok gX hAX) (zm 0 rfl) (ci := 0) (C := RX0) (T := TX0) (N := 14) rfl in_X0 0 (by decide) q207 (fun _ h => h) (v := .ref (ad 0)) rfl dX0_row_29 ?_
            refine z_iload_n (pc := 32) gX 1 dX0_row_32 rfl rfl ?_
            rcases hrr : rw i with _ | ⟨a, w9, n9, f9⟩
            · skip
              refine z_ws [cOb o ad (sa 0) (sb 0) tr x, [(ad 0, .inl (D.1 105, 8, .inr (.inr (.inr (.inr (rF sh 8))))))], [(sh i, .inr (1, [.null]))], slR D sh rw i] (sg_perm [[(sh i, .inr (1, [.null]))], slR D sh rw i] 2 rfl rfl (sl_on (D := D) (sh := sh) (rw := rw) (i := i) (by omega) hrr)) ?_
              refine z_ald (pc := 33) gX (zI_ok gX hAX) (j := i) (n := 8) (f := (rF sh 8)) (zm 1 rfl) 5 rfl (by omega) (by decide) (sh i) (rF_lt (by omega)) dX0_row_33 ?_
              refine z_iload_n (pc := 34) gX 2 dX0_row_34 rfl rfl ?_
              refine z_iload_n (pc := 35) gX 3 dX0_row_35 rfl rfl ?_
              refine z_cMS (pc := 36) gX hAX [.int (nI 2), .int (nI n0)] [.ref (sh i)] [] [0, 1, 2, 3] (fun A1 => met_X0_newLane_2 l D B0 A1 n0 hn0) q351 q352 q47 q353 hd_X0_newLane ⟨rfl, rfl⟩ ⟨(Nat.le_of_ble_eq_true rfl), (Nat.le_of_ble_eq_true rfl)⟩ rfl rfl rfl rfl rfl (Nat.le_of_ble_eq_true rfl) ⟨(Nat.le_of_ble_eq_true rfl), (Nat.le_of_ble_eq_true rfl)⟩ dX0_row_36 ?_
              intro u36 hu36
              obtain ⟨q_36, rfl⟩ : ∃ z, z = u36 := ⟨_, rfl⟩
              refine z_re [1, 2, 3, 0, 4] [cOb o ad (sa 0) (sb 0) tr x, [(ad 0, .inl (D.1 105, 8, .inr (.inr (.inr (.inr (rF sh 8))))))], [(sh i, .inr (1, [.null]))], [(q_36, .inl (D.1 100, n0, .inl (fun _ => 0)))], slR D sh rw i] rfl rfl ?_
              refine z_norm [cOb o ad (sa 0) (sb 0) tr x, [(ad 0, .inl (D.1 105, 8, .inr (.inr (.inr (.inr (rF sh 8))))))], [(sh i, .inr (1, [.null]))], [(q_36, .inl (D.1 100, n0, .inl (fun _ => 0)))], slR D sh rw i] 1 40 ?_ rfl rfl rfl
              refine z_eq (lv₂ := [(0, .ref o), (1, .int (nI i)), (2, .int (nI 2)), (3, .int (nI n0))]) (st₂ := [.ref q_36, .ref (sh i)]) ?_ rfl rfl
              refine z_putN (pc := 39) gX hAX 2 rfl (ci := 1) (C := RX1) (T := TX1) (N := 1) rfl in_X1 tyX1 tyX1_ok nmX1 0 (by decide) (zm 1 rfl) (fun _ h => h) rfl (v := .ref q_36) rfl rfl (Nat.le_of_ble_eq_true rfl) [cOb o ad (sa 0) (sb 0) tr x, [(ad 0, .inl (D.1 105, 8, .inr (.inr (.inr (.inr (rF sh 8))))))], [(sh i, .inr (1, [.ref q_36]))], [(q_36, .inl (D.1 100, n0, .inl (fun _ => 0)))], slR D sh rw i] rfl dX0_row_39 ?_
              refine z_ws [cOb o ad (sa 0) (sb 0) tr x, [(ad 0, .inl (D.1 105, 8, .inr (.inr (.inr (.inr (rF sh 8))))))], slP D sh (setR rw i (some (q_36, 2, n0, fun _ => 0))) 8] (gs_perm (slP D sh (setR rw i (some (q_36, 2, n0, fun _ => 0))) 8) 2 3 rfl (sl_cs (D := D) (sh := sh) (rw := rw) (i := i) (a := q_36) (w := 2) (n := n0) (f := fun _ => 0) (by omega))) ?_
              refine z_aload_n (pc := 42) gX 0 dX0_row_42 rfl rfl ?_
              refine z_iload_n (pc := 43) gX 3 dX0_row_43 rfl rfl ?_
              refine z_cMV (pc := 44) gX hAX [.int (nI n0)] [] [0] [1, 2] (fun A1 => met_X0_well l D B0 A1 o ad sa sb tr x (nI n0) ) q354 q356 qs2 q47 q357 (zm 0 rfl) (ci := 0) rfl rfl hd_X0_well ⟨rfl, rfl⟩ ⟨(Nat.le_of_ble_eq_true rfl), (Nat.le_of_ble_eq_true rfl)⟩ rfl rfl rfl rfl rfl (Nat.le_of_ble_eq_true rfl) ⟨(Nat.le_of_ble_eq_true rfl), (Nat.le_of_ble_eq_true rfl)⟩ dX0_row_44 ?_
              intro _ hu44
              refine z_re [0, 1, 2] [cOb o ad (sa 0) (sb 0) tr (upd x 3 0), [(ad 0, .inl (D.1 105, 8, .inr (.inr (.inr (.inr (rF sh 8))))))], slP D sh (setR rw i (some (q_36, 2, n0, fun _ => 0))) 8] rfl rfl ?_
              refine z_eq (lv₂ := [(0, .ref o), (1, .int (nI i)), (2, .int (nI 2)), (3, .int (nI n0))]) (st₂ := [.int (nI n0)]) ?_ rfl rfl
              exact z_rim gX hQX (nI n0, mSt xm (nI n0), upd sz i (nI n0), upd wd i (nI 2), zer it (40 * i) 40, setR rw i (some (q_36, 2, n0, fun _ => 0))) (⟨by simp only [mRow, k4, k16, decide_eq_true c22, Bool.and_self, if_true, nI_clamp (show i < 2 ^ 31 by omega)]; rw [if_neg (nI_pos (by omega))], hW.row (by omega) (by omega) hn0⟩) rfl (by simp only [mSt_0 hn0, pk_us]) (by first | decide | omega) (by first | decide | omega) dX0_row_47
            · skip
              refine z_ws [cOb o ad (sa 0) (sb 0) tr x, [(ad 0, .inl (D.1 105, 8, .inr (.inr (.inr (.inr (rF sh 8))))))], [(sh i, .inr (1, [.ref a]))], [(a, .inl (rwC D w9, n9, .inl f9))], slR D sh rw i] (sg_perm [[(sh i, .inr (1, [.ref a]))], [(a, .inl (rwC D w9, n9, .inl f9))], slR D sh rw i] 2 rfl rfl (sl_os (D := D) (sh := sh) (rw := rw) (i := i) (by omega) hrr)) ?_
              refine z_ald (pc := 33) gX (zI_ok gX hAX) (j := i) (n := 8) (f := (rF sh 8)) (zm 1 rfl) 5 rfl (by omega) (by decide) (sh i) (rF_lt (by omega)) dX0_row_33 ?_
              refine z_iload_n (pc := 34) gX 2 dX0_row_34 rfl rfl ?_
              refine z_iload_n (pc := 35) gX 3 dX0_row_35 rfl rfl ?_
              refine z_cMS (pc := 36) gX hAX [.int (nI 2), .int (nI n0)] [.ref (sh i)] [] [0, 1, 2, 3, 4] (fun A1 => met_X0_newLane_2 l D B0 A1 n0 hn0) q351 q352 q47 q353 hd_X0_newLane ⟨rfl, rfl⟩ ⟨(Nat.le_of_ble_eq_true rfl), (Nat.le_of_ble_eq_true rfl)⟩ rfl rfl rfl rfl rfl (Nat.le_of_ble_eq_true rfl) ⟨(Nat.le_of_ble_eq_true rfl), (Nat.le_of_ble_eq_true rfl)⟩ dX0_row_36 ?_
              intro u36 hu36
              obtain ⟨q_36, rfl⟩ : ∃ z, z = u36 := ⟨_, rfl⟩
              refine z_re [1, 2, 3, 0, 4, 5] [cOb o ad (sa 0) (sb 0) tr x, [(ad 0, .inl (D.1 105, 8, .inr (.inr (.inr (.inr (rF sh 8))))))], [(sh i, .inr (1, [.ref a]))], [(q_36, .inl (D.1 100, n0, .inl (fun _ => 0)))], [(a, .inl (rwC D w9, n9, .inl f9))], slR D sh rw i] rfl rfl ?_
              refine z_norm [cOb o ad (sa 0) (sb 0) tr x, [(ad 0, .inl (D.1 105, 8, .inr (.inr (.inr (.inr (rF sh 8))))))], [(sh i, .inr (1, [.ref a]))], [(q_36, .inl (D.1 100, n0, .inl (fun _ => 0)))], [(a, .inl (rwC D w9, n9, .inl f9))], slR D sh rw i] 1 40 ?_ rfl rfl rfl
              refine z_eq (lv₂ := [(0, .ref o), (1, .int (nI i)), (2, .int (nI 2)), (3, .int (nI n0))]) (st₂ := [.ref q_36, .ref (sh i)]) ?_ rfl rfl
              refine z_putN (pc := 39) gX hAX 2 rfl (ci := 1) (C := RX1) (T := TX1) (N := 1) rfl in_X1 tyX1 tyX1_ok nmX1 0 (by decide) (zm 1 rfl) (fun _ h => h) rfl (v := .ref q_36) rfl rfl (Nat.le_of_ble_eq_true rfl) [cOb o ad (sa 0) (sb 0) tr x, [(ad 0, .inl (D.1 105, 8, .inr (.inr (.inr (.inr (rF sh 8))))))], [(sh i, .inr (1, [.ref q_36]))], [(q_36, .inl (D.1 100, n0, .inl (fun _ => 0)))], [(a, .inl (rwC D w9, n9, .inl f9))], slR D sh rw i] rfl dX0_row_39 ?_
              refine z_re [0, 1, 2, 3, 5, 4] [cOb o ad (sa 0) (sb 0) tr x, [(ad 0, .inl (D.1 105, 8, .inr (.inr (.inr (.inr (rF sh 8))))))], [(sh i, .inr (1, [.ref q_36]))], [(q_36, .inl (D.1 100, n0, .inl (fun _ => 0)))], slR D sh rw i, [(a, .inl (rwC D w9, n9, .inl f9))]] rfl rfl ?_
              refine z_drop [cOb o ad (sa 0) (sb 0) tr x, [(ad 0, .inl (D.1 105, 8, .inr (.inr (.inr (.inr (rF sh 8))))))], [(sh i, .inr (1, [.ref q_36]))], [(q_36, .inl (D.1 100, n0, .inl (fun _ => 0)))], slR D sh rw i] (by simp only [List.flatten_cons, List.flatten_nil, List.append_nil, ← List.append_assoc]; exact List.sublist_append_left _ _) ?_
              refine z_ws [cOb o ad (sa 0) (sb 0) tr x, [(ad 0, .inl (D.1 105, 8, .inr (.inr (.inr (.inr (rF sh 8))))))], slP D sh (setR rw i (some (q_36, 2, n0, fun _ => 0))) 8] (gs_perm (slP D sh (setR rw i (some (q_36, 2, n0, fun _ => 0))) 8) 2 3 rfl (sl_cs (D := D) (sh := sh) (rw := rw) (i := i) (a := q_36) (w := 2) (n := n0) (f := fun _ => 0) (by omega))) ?_
              refine z_aload_n (pc := 42) gX 0 dX0_row_42 rfl rfl ?_
              refine z_iload_n (pc := 43) gX 3 dX0_row_43 rfl rfl ?_
              refine z_cMV (pc := 44) gX hAX [.int (nI n0)] [] [0] [1, 2] (fun A1 => met_X0_well l D B0 A1 o ad sa sb tr x (nI n0) ) q354 q356 qs2 q47 q357 (zm 0 rfl) (ci := 0) rfl rfl hd_X0_well ⟨rfl, rfl⟩ ⟨(Nat.le_of_ble_eq_true rfl), (Nat.le_of_ble_eq_true rfl)⟩ rfl rfl rfl rfl rfl (Nat.le_of_ble_eq_true rfl) ⟨(Nat.le_of_ble_eq_true rfl), (Nat.le_of_ble_eq_true rfl)⟩ dX0_row_44 ?_
              intro _ hu44
              refine z_re [0, 1, 2] [cOb o ad (sa 0) (sb 0) tr (upd x 3 0), [(ad 0, .inl (D.1 105, 8, .inr (.inr (.inr (.inr (rF sh 8))))))], slP D sh (setR rw i (some (q_36, 2, n0, fun _ => 0))) 8] rfl rfl ?_
              refine z_eq (lv₂ := [(0, .ref o), (1, .int (nI i)), (2, .int (nI 2)), (3, .int (nI n0))]) (st₂ := [.int (nI n0)]) ?_ rfl rfl
              exact z_rim gX hQX (nI n0, mSt xm (nI n0), upd sz i (nI n0), upd wd i (nI 2), zer it (40 * i) 40, setR rw i (some (q_36, 2, n0, fun _ => 0))) (⟨by simp only [mRow, k4, k16, decide_eq_true c22, Bool.and_self, if_true, nI_clamp (show i < 2 ^ 31 by omega)]; rw [if_neg (nI_pos (by omega))], hW.row (by omega) (by omega) hn0⟩) rfl (by simp only [mSt_0 hn0, pk_us]) (by first | decide | omega) (by first | decide | omega) dX0_row_47
      · skip
        refine z_ldc (pc := 25) gX q350 dX0_row_25 ?_
        exact z_rim gX hQX (-1000001, xm, sz, wd, it, rw) (⟨by simp [mRow, k4, k16, c22], hW⟩) rfl (by simp only [show upd x 3 (xm 0) = x by rw [← hx3]; exact upd_self _ _]) (by first | decide | omega) (by first | decide | omega) dX0_row_27
theorem hd_X0_row : zHd yX0_row 3 := by unfold zHd; decide +kernel

set_option maxHeartbeats 4000000 in
theorem met_X0_set (l : Launch) (D : va_G) (B0 : Nat) (A : Nat → Prop) (o : Nat) (ad : Nat → Nat) (sa : Nat → Nat) (sb : Nat → Nat) (tr : Nat) (x : Nat → Int32) (sh : Nat → Nat) (rw : Nat → rT) (xm : Nat → Int32) (sz : Nat → Int32) (wd : Nat → Int32) (it : Nat → Int32) (row : Int32) (i_ : Int32) (v : Int32) (hl : l.stackTraces = false) (hx3 : x 3 = xm 0) (hW : rwR rw sz wd it) : Met l yX0_set (wsW_ yX0_set cX0_set 5 (some .int) [(10, 25, 26, 113), (10, 25, 34, 115)]) (zRm 173 3 222) (va_Pc [.ref o, .int row, .int i_, .int v] (zPre B0 D A [cOb o ad (sa 0) (sb 0) tr x, [(ad 0, .inl (D.1 105, 8, .inr (.inr (.inr (.inr (rF sh 8))))))], slP D sh rw 8])) (zQ (S := Int32 × (Nat → Int32) × (Nat → Int32) × (Nat → rT)) (fun u => (fun (r_ : Int32) (xm1 : Nat → Int32) (it1 : Nat → Int32) (rw1 : Nat → rT) => (r_, xm1, it1) = mSet xm sz wd it row i_ v ∧ rwR rw1 sz wd it1) u.1 u.2.1 u.2.2.1 u.2.2.2) (fun u => (fun (r_ : Int32) (xm1 : Nat → Int32) (it1 : Nat → Int32) (rw1 : Nat → rT) => some (.int r_)) u.1 u.2.1 u.2.2.1 u.2.2.2) (fun u => (fun (r_ : Int32) (xm1 : Nat → Int32) (it1 : Nat → Int32) (rw1 : Nat → rT) => [cOb o ad (sa 0) (sb 0) tr (upd x 3 (xm1 0)), [(ad 0, .inl (D.1 105, 8, .inr (.inr (.inr (.inr (rF sh 8))))))], slP D sh rw1 8]) u.1 u.2.1 u.2.2.1 u.2.2.2) D A) 3 222 A := by
  refine z_entryW (by decide +kernel) (Nat.le_of_ble_eq_true rfl) (fun pX eX sX mX argsX blX mtX cX QX hQX gX hAX hnm htabX => ?_)
  refine z_eq (lv₂ := [(0, .ref o), (1, .int row), (2, .int i_), (3, .int v)]) (st₂ := []) ?_ rfl rfl
  refine z_iload_n (pc := 0) gX 1 dX0_set_0 rfl rfl ?_
  refine z_cOS (pc := 1) gX (zI_ok gX hAX) [.int row] [] [] (met_X0_isRow l D B0 row ) q342 q343 q47 q344 hd_X0_isRow ⟨rfl, rfl⟩ ⟨(Nat.le_of_ble_eq_true rfl), (Nat.le_of_ble_eq_true rfl)⟩ rfl rfl rfl (Nat.le_of_ble_eq_true rfl) ⟨(Nat.le_of_ble_eq_true rfl), (Nat.le_of_ble_eq_true rfl)⟩ dX0_set_1 ?_
  intro _ hu1
  refine z_eq (lv₂ := [(0, .ref o), (1, .int row), (2, .int i_), (3, .int v)]) (st₂ := [.int (bI (mIn row 0 7))]) ?_ rfl rfl
  refine z_if_ne (pc := 4) gX 10 dX0_set_4 (by decide) (fun c4 => ?_) (fun c4 => ?_)
  · skip
    have k4 : (mIn row 0 7) = true := bI_ne0 c4
    obtain ⟨i, hi, rfl⟩ := mIn_nat k4 7 (by decide)
    rcases hrr : rw i with _ | ⟨a, w9, n9, f9⟩
    · skip
      have hsz := hW.none (by omega) hrr
      refine z_ws [cOb o ad (sa 0) (sb 0) tr x, [(ad 0, .inl (D.1 105, 8, .inr (.inr (.inr (.inr (rF sh 8))))))], [(sh i, .inr (1, [.null]))], slR D sh rw i] (sg_perm [[(sh i, .inr (1, [.null]))], slR D sh rw i] 2 rfl rfl (sl_on (D := D) (sh := sh) (rw := rw) (i := i) (by omega) hrr)) ?_
      refine z_aload_n (pc := 10) gX 0 dX0_set_10 rfl rfl ?_
      refine z_aload_n (pc := 11) gX 0 dX0_set_11 rfl rfl ?_
      refine z_get (pc := 12) gX (zI_ok gX hAX) (zm 0 rfl) (ci := 0) (C := RX0) (T := TX0) (N := 14) rfl in_X0 0 (by decide) q207 (fun _ h => h) (v := .ref (ad 0)) rfl dX0_set_12 ?_
      refine z_iload_n (pc := 15) gX 1 dX0_set_15 rfl rfl ?_
      refine z_ald (pc := 16) gX (zI_ok gX hAX) (j := i) (n := 8) (f := (rF sh 8)) (zm 1 rfl) 5 rfl (by omega) (by decide) (sh i) (rF_lt (by omega)) dX0_set_16 ?_
      refine z_iload_n (pc := 17) gX 2 dX0_set_17 rfl rfl ?_
      refine z_iload_n (pc := 18) gX 3 dX0_set_18 rfl rfl ?_
      refine z_xVN (pc := 19) gX hAX [.int i_, .int v] [.ref o] [2] [0, 1, 3] (fun A1 => met_X1_putN l D B0 A1 (sh i) i_ v (by first | assumption | omega)) (zm 8 rfl) q414 qs4 q48 q415 (zm 2 rfl) (ci := 1) rfl hd_X1_put ⟨rfl, rfl⟩ ⟨(Nat.le_of_ble_eq_true rfl), (Nat.le_of_ble_eq_true rfl)⟩ rfl rfl rfl rfl rfl (Nat.le_of_ble_eq_true rfl) ⟨(Nat.le_of_ble_eq_true rfl), (Nat.le_of_ble_eq_true rfl)⟩ dX0_set_19 (fun E_19 u_19 => ?_) (fun _ hF => hF.elim)
      refine z_xpx (E0 := "java/lang/NullPointerException") (PX1 := fun q_ => True) (fun _ h => h) ?_
      refine z_xper [1, 2, 0, 3] [cOb o ad (sa 0) (sb 0) tr x, [(ad 0, .inl (D.1 105, 8, .inr (.inr (.inr (.inr (rF sh 8))))))], [(sh i, .inr (1, [.null]))], slR D sh rw i] rfl rfl ?_
      refine z_xcatch (E := "java/lang/NullPointerException") gX [(10, 25, 26, 113), (10, 25, 34, 115)] htabX [] ⟨10, 25, 26, 113⟩ [⟨10, 25, 34, 115⟩] rfl (fun _ h => absurd h List.not_mem_nil) (by decide) (by decide) q368 (va_any rfl (gX.zk.cast q390)) (fun x_19 hx_19 => ?_)
      refine z_astore (pc := 26) gX [1, 2, 3, 4, 0] [(0, .ref o), (1, .int (nI i)), (2, .int i_), (3, .int v), (4, .ref x_19)] dX0_set_26 (by decide) rfl ?_
      refine z_ws [cOb o ad (sa 0) (sb 0) tr x, [(ad 0, .inl (D.1 105, 8, .inr (.inr (.inr (.inr (rF sh 8))))))], slP D sh (setR rw i none) 8] (gs_perm (slP D sh (setR rw i none) 8) 2 2 rfl (sl_cn (D := D) (sh := sh) (rw := rw) (i := i) (by omega))) ?_
      refine z_aload_n (pc := 28) gX 0 dX0_set_28 rfl rfl ?_
      refine z_iconst (pc := 29) gX 1 dX0_set_29 (by decide) ?_
      refine z_cMV (pc := 30) gX hAX [.int 1] [] [0] [1, 2] (fun A1 => met_X0_found l D B0 A1 o ad sa sb tr x 1 ) q358 q360 qs3 q47 q361 (zm 0 rfl) (ci := 0) rfl rfl hd_X0_found ⟨rfl, rfl⟩ ⟨(Nat.le_of_ble_eq_true rfl), (Nat.le_of_ble_eq_true rfl)⟩ rfl rfl rfl rfl rfl (Nat.le_of_ble_eq_true rfl) ⟨(Nat.le_of_ble_eq_true rfl), (Nat.le_of_ble_eq_true rfl)⟩ dX0_set_30 ?_
      intro _ hu30
      refine z_re [0, 1, 2] [cOb o ad (sa 0) (sb 0) tr (upd x 3 1), [(ad 0, .inl (D.1 105, 8, .inr (.inr (.inr (.inr (rF sh 8))))))], slP D sh (setR rw i none) 8] rfl rfl ?_
      refine z_eq (lv₂ := [(0, .ref o), (1, .int (nI i)), (2, .int i_), (3, .int v), (4, .ref x_19)]) (st₂ := [.int (-1000010 - 1)]) ?_ rfl rfl
      exact z_rim gX hQX (-1000010 - 1, mSt xm (-1000011), it, setR rw i none) (⟨by simp only [mSet, k4, if_true, nI_clamp (show i < 2 ^ 31 by omega)]; rw [if_pos hsz] <;> rfl, by rw [(show setR rw i none = rw by rw [← hrr]; exact setR_id)]; exact hW⟩) rfl (by simp only [mSt_n, pk_us] <;> rfl) (by first | decide | omega) (by first | decide | omega) dX0_set_33
    · skip
      obtain ⟨hw9, hn9, hsz, hwd, hit⟩ := hW.some (by omega) hrr
      refine z_aload_n (pc := 10) gX 0 dX0_set_10 rfl rfl ?_
      rcases (show w9 = 0 ∨ w9 = 1 ∨ w9 = 2 by omega) with rfl | rfl | rfl
      · skip
        refine z_ws [cOb o ad (sa 0) (sb 0) tr x, [(ad 0, .inl (D.1 105, 8, .inr (.inr (.inr (.inr (rF sh 8))))))], [(sh i, .inr (1, [.ref a]))], [(a, .inl (D.1 101, n9, .inl f9))], slR D sh rw i] (sg_perm [[(sh i, .inr (1, [.ref a]))], [(a, .inl (D.1 101, n9, .inl f9))], slR D sh rw i] 2 rfl rfl (sl_os (D := D) (sh := sh) (rw := rw) (i := i) (w := 0) (by omega) hrr)) ?_
        refine z_aload_n (pc := 11) gX 0 dX0_set_11 rfl rfl ?_
        rcases lies1 (i := i_) hn9 with ⟨hin, j, hj, rfl, hlie⟩ | ⟨hout, hlie⟩
        · skip
          refine z_get (pc := 12) gX (zI_ok gX hAX) (zm 0 rfl) (ci := 0) (C := RX0) (T := TX0) (N := 14) rfl in_X0 0 (by decide) q207 (fun _ h => h) (v := .ref (ad 0)) rfl dX0_set_12 ?_
          refine z_iload_n (pc := 15) gX 1 dX0_set_15 rfl rfl ?_
          refine z_ald (pc := 16) gX (zI_ok gX hAX) (j := i) (n := 8) (f := (rF sh 8)) (zm 1 rfl) 5 rfl (by omega) (by decide) (sh i) (rF_lt (by omega)) dX0_set_16 ?_
          refine z_iload_n (pc := 17) gX 2 dX0_set_17 rfl rfl ?_
          refine z_iload_n (pc := 18) gX 3 dX0_set_18 rfl rfl ?_
          refine z_cMVN (pc := 19) gX hAX [.int (nI j), .int v] [.ref o] [2, 3] [0, 1, 4] (fun A1 => met_X1_put_0 l D B0 A1 (sh i) a n9 f9 j v hn9 hj) (zm 8 rfl) q414 qs4 q48 hd_X1_put q415 (zm 2 rfl) (ci := 1) rfl ⟨rfl, rfl⟩ ⟨(Nat.le_of_ble_eq_true rfl), (Nat.le_of_ble_eq_true rfl)⟩ rfl rfl rfl rfl rfl (Nat.le_of_ble_eq_true rfl) ⟨(Nat.le_of_ble_eq_true rfl), (Nat.le_of_ble_eq_true rfl)⟩ dX0_set_19 ?_
          intro _ hu19
          refine z_re [2, 3, 0, 1, 4] [cOb o ad (sa 0) (sb 0) tr x, [(ad 0, .inl (D.1 105, 8, .inr (.inr (.inr (.inr (rF sh 8))))))], [(sh i, .inr (1, [.ref a]))], [(a, .inl (D.1 101, n9, .inl (upd f9 j (mCut 0 v))))], slR D sh rw i] rfl rfl ?_
          refine z_eq (lv₂ := [(0, .ref o), (1, .int (nI i)), (2, .int (nI j)), (3, .int v)]) (st₂ := [.int (mCut 0 v), .ref o]) ?_ rfl rfl
          refine z_ws [cOb o ad (sa 0) (sb 0) tr x, [(ad 0, .inl (D.1 105, 8, .inr (.inr (.inr (.inr (rF sh 8))))))], slP D sh (setR rw i (some (a, 0, n9, upd f9 j (mCut 0 v)))) 8] (gs_perm (slP D sh (setR rw i (some (a, 0, n9, upd f9 j (mCut 0 v)))) 8) 2 3 rfl (sl_cs (D := D) (sh := sh) (rw := rw) (i := i) (a := a) (w := 0) (n := n9) (f := upd f9 j (mCut 0 v)) (by omega))) ?_
          refine z_cMV (pc := 22) gX hAX [.int (mCut 0 v)] [] [0] [1, 2] (fun A1 => met_X0_well l D B0 A1 o ad sa sb tr x (mCut 0 v) ) q354 q356 qs2 q47 q357 (zm 0 rfl) (ci := 0) rfl rfl hd_X0_well ⟨rfl, rfl⟩ ⟨(Nat.le_of_ble_eq_true rfl), (Nat.le_of_ble_eq_true rfl)⟩ rfl rfl rfl rfl rfl (Nat.le_of_ble_eq_true rfl) ⟨(Nat.le_of_ble_eq_true rfl), (Nat.le_of_ble_eq_true rfl)⟩ dX0_set_22 ?_
          intro _ hu22
          refine z_re [0, 1, 2] [cOb o ad (sa 0) (sb 0) tr (upd x 3 0), [(ad 0, .inl (D.1 105, 8, .inr (.inr (.inr (.inr (rF sh 8))))))], slP D sh (setR rw i (some (a, 0, n9, upd f9 j (mCut 0 v)))) 8] rfl rfl ?_
          refine z_eq (lv₂ := [(0, .ref o), (1, .int (nI i)), (2, .int (nI j)), (3, .int v)]) (st₂ := [.int (mCut 0 v)]) ?_ rfl rfl
          exact z_rim gX hQX (mCut 0 v, upd xm 0 0, upd it (40 * i + j) (mCut 0 v), setR rw i (some (a, 0, n9, upd f9 j (mCut 0 v)))) (⟨by simp only [mSet, k4, if_true, nI_clamp (show i < 2 ^ 31 by omega), hsz, hlie, hwd, nI_clamp (show j < 2 ^ 31 by omega)]; rw [if_neg (nI_pos (by omega))] <;> rfl, hW.set (by omega) hrr hj⟩) rfl (by simp only [pk_us]) (by first | decide | omega) (by first | decide | omega) dX0_set_25
        · skip
          refine z_get (pc := 12) gX (zI_ok gX hAX) (zm 0 rfl) (ci := 0) (C := RX0) (T := TX0) (N := 14) rfl in_X0 0 (by decide) q207 (fun _ h => h) (v := .ref (ad 0)) rfl dX0_set_12 ?_
          refine z_iload_n (pc := 15) gX 1 dX0_set_15 rfl rfl ?_
          refine z_ald (pc := 16) gX (zI_ok gX hAX) (j := i) (n := 8) (f := (rF sh 8)) (zm 1 rfl) 5 rfl (by omega) (by decide) (sh i) (rF_lt (by omega)) dX0_set_16 ?_
          refine z_iload_n (pc := 17) gX 2 dX0_set_17 rfl rfl ?_
          refine z_iload_n (pc := 18) gX 3 dX0_set_18 rfl rfl ?_
          refine z_xVN (pc := 19) gX hAX [.int i_, .int v] [.ref o] [2, 3] [0, 1, 4] (fun A1 => met_X1_putZ_0 l D B0 A1 (sh i) a n9 f9 i_ v (by first | assumption | omega) hn9 hout) (zm 8 rfl) q414 qs4 q48 q415 (zm 2 rfl) (ci := 1) rfl hd_X1_put ⟨rfl, rfl⟩ ⟨(Nat.le_of_ble_eq_true rfl), (Nat.le_of_ble_eq_true rfl)⟩ rfl rfl rfl rfl rfl (Nat.le_of_ble_eq_true rfl) ⟨(Nat.le_of_ble_eq_true rfl), (Nat.le_of_ble_eq_true rfl)⟩ dX0_set_19 (fun E_19 u_19 => ?_) (fun _ hF => hF.elim)
          refine z_xpx (E0 := "java/lang/ArrayIndexOutOfBoundsException") (PX1 := fun q_ => True) (fun _ h => h) ?_
          refine z_xper [2, 3, 0, 1, 4] [cOb o ad (sa 0) (sb 0) tr x, [(ad 0, .inl (D.1 105, 8, .inr (.inr (.inr (.inr (rF sh 8))))))], [(sh i, .inr (1, [.ref a]))], [(a, .inl (D.1 101, n9, .inl f9))], slR D sh rw i] rfl rfl ?_
          refine z_xcatch (E := "java/lang/ArrayIndexOutOfBoundsException") gX [(10, 25, 26, 113), (10, 25, 34, 115)] htabX [⟨10, 25, 26, 113⟩] ⟨10, 25, 34, 115⟩ [] rfl (List.forall_mem_cons.mpr ⟨Or.inr ⟨by decide, "java/lang/NullPointerException", gX.ts _ q368, gX.zk.nc (fun _ _ h => flat_of_before _ h _ (by decide +kernel))⟩, fun _ h => absurd h List.not_mem_nil⟩) (by decide) (by decide) q393 (va_any rfl (gX.zk.cast q408)) (fun x_19 hx_19 => ?_)
          refine z_astore (pc := 34) gX [1, 2, 3, 4, 0] [(0, .ref o), (1, .int (nI i)), (2, .int i_), (3, .int v), (4, .ref x_19)] dX0_set_34 (by decide) rfl ?_
          refine z_ws [cOb o ad (sa 0) (sb 0) tr x, [(ad 0, .inl (D.1 105, 8, .inr (.inr (.inr (.inr (rF sh 8))))))], slP D sh (setR rw i (some (a, 0, n9, f9))) 8] (gs_perm (slP D sh (setR rw i (some (a, 0, n9, f9))) 8) 2 3 rfl (sl_cs (D := D) (sh := sh) (rw := rw) (i := i) (a := a) (w := 0) (n := n9) (f := f9) (by omega))) ?_
          refine z_aload_n (pc := 36) gX 0 dX0_set_36 rfl rfl ?_
          refine z_iconst (pc := 37) gX 2 dX0_set_37 (by decide) ?_
          refine z_cMV (pc := 38) gX hAX [.int 2] [] [0] [1, 2] (fun A1 => met_X0_found l D B0 A1 o ad sa sb tr x 2 ) q358 q360 qs3 q47 q361 (zm 0 rfl) (ci := 0) rfl rfl hd_X0_found ⟨rfl, rfl⟩ ⟨(Nat.le_of_ble_eq_true rfl), (Nat.le_of_ble_eq_true rfl)⟩ rfl rfl rfl rfl rfl (Nat.le_of_ble_eq_true rfl) ⟨(Nat.le_of_ble_eq_true rfl), (Nat.le_of_ble_eq_true rfl)⟩ dX0_set_38 ?_
          intro _ hu38
          refine z_re [0, 1, 2] [cOb o ad (sa 0) (sb 0) tr (upd x 3 2), [(ad 0, .inl (D.1 105, 8, .inr (.inr (.inr (.inr (rF sh 8))))))], slP D sh (setR rw i (some (a, 0, n9, f9))) 8] rfl rfl ?_
          refine z_eq (lv₂ := [(0, .ref o), (1, .int (nI i)), (2, .int i_), (3, .int v), (4, .ref x_19)]) (st₂ := [.int (-1000010 - 2)]) ?_ rfl rfl
          exact z_rim gX hQX (-1000010 - 2, mSt xm (-1000012), it, setR rw i (some (a, 0, n9, f9))) (⟨by simp only [mSet, k4, if_true, nI_clamp (show i < 2 ^ 31 by omega), hsz, hlie]; rw [if_neg (nI_pos (by omega)), if_neg (by decide)] <;> rfl, by rw [(show setR rw i (some (a, 0, n9, f9)) = rw by rw [← hrr]; exact setR_id)]; exact hW⟩) rfl (by simp only [mSt_p, pk_us] <;> rfl) (by first | decide | omega) (by first | decide | omega) dX0_set_41
      · skip
        refine z_ws [cOb o ad (sa 0) (sb 0) tr x, [(ad 0, .inl (D.1 105, 8, .inr (.inr (.inr (.inr (rF sh 8))))))], [(sh i, .inr (1, [.ref a]))], [(a, .inl (D.1 102, n9, .inl f9))], slR D sh rw i] (sg_perm [[(sh i, .inr (1, [.ref a]))], [(a, .inl (D.1 102, n9, .inl f9))], slR D sh rw i] 2 rfl rfl (sl_os (D := D) (sh := sh) (rw := rw) (i := i) (w := 1) (by omega) hrr)) ?_
        refine z_aload_n (pc := 11) gX 0 dX0_set_11 rfl rfl ?_
        rcases lies1 (i := i_) hn9 with ⟨hin, j, hj, rfl, hlie⟩ | ⟨hout, hlie⟩
        · skip
          refine z_get (pc := 12) gX (zI_ok gX hAX) (zm 0 rfl) (ci := 0) (C := RX0) (T := TX0) (N := 14) rfl in_X0 0 (by decide) q207 (fun _ h => h) (v := .ref (ad 0)) rfl dX0_set_12 ?_
          refine z_iload_n (pc := 15) gX 1 dX0_set_15 rfl rfl ?_
          refine z_ald (pc := 16) gX (zI_ok gX hAX) (j := i) (n := 8) (f := (rF sh 8)) (zm 1 rfl) 5 rfl (by omega) (by decide) (sh i) (rF_lt (by omega)) dX0_set_16 ?_
          refine z_iload_n (pc := 17) gX 2 dX0_set_17 rfl rfl ?_
          refine z_iload_n (pc := 18) gX 3 dX0_set_18 rfl rfl ?_
          refine z_cMVN (pc := 19) gX hAX [.int (nI j), .int v] [.ref o] [2, 3] [0, 1, 4] (fun A1 => met_X1_put_1 l D B0 A1 (sh i) a n9 f9 j v hn9 hj) (zm 8 rfl) q414 qs4 q48 hd_X1_put q415 (zm 2 rfl) (ci := 1) rfl ⟨rfl, rfl⟩ ⟨(Nat.le_of_ble_eq_true rfl), (Nat.le_of_ble_eq_true rfl)⟩ rfl rfl rfl rfl rfl (Nat.le_of_ble_eq_true rfl) ⟨(Nat.le_of_ble_eq_true rfl), (Nat.le_of_ble_eq_true rfl)⟩ dX0_set_19 ?_
          intro _ hu19
          refine z_re [2, 3, 0, 1, 4] [cOb o ad (sa 0) (sb 0) tr x, [(ad 0, .inl (D.1 105, 8, .inr (.inr (.inr (.inr (rF sh 8))))))], [(sh i, .inr (1, [.ref a]))], [(a, .inl (D.1 102, n9, .inl (upd f9 j (mCut 1 v))))], slR D sh rw i] rfl rfl ?_
          refine z_eq (lv₂ := [(0, .ref o), (1, .int (nI i)), (2, .int (nI j)), (3, .int v)]) (st₂ := [.int (mCut 1 v), .ref o]) ?_ rfl rfl
          refine z_ws [cOb o ad (sa 0) (sb 0) tr x, [(ad 0, .inl (D.1 105, 8, .inr (.inr (.inr (.inr (rF sh 8))))))], slP D sh (setR rw i (some (a, 1, n9, upd f9 j (mCut 1 v)))) 8] (gs_perm (slP D sh (setR rw i (some (a, 1, n9, upd f9 j (mCut 1 v)))) 8) 2 3 rfl (sl_cs (D := D) (sh := sh) (rw := rw) (i := i) (a := a) (w := 1) (n := n9) (f := upd f9 j (mCut 1 v)) (by omega))) ?_
          refine z_cMV (pc := 22) gX hAX [.int (mCut 1 v)] [] [0] [1, 2] (fun A1 => met_X0_well l D B0 A1 o ad sa sb tr x (mCut 1 v) ) q354 q356 qs2 q47 q357 (zm 0 rfl) (ci := 0) rfl rfl hd_X0_well ⟨rfl, rfl⟩ ⟨(Nat.le_of_ble_eq_true rfl), (Nat.le_of_ble_eq_true rfl)⟩ rfl rfl rfl rfl rfl (Nat.le_of_ble_eq_true rfl) ⟨(Nat.le_of_ble_eq_true rfl), (Nat.le_of_ble_eq_true rfl)⟩ dX0_set_22 ?_
          intro _ hu22
          refine z_re [0, 1, 2] [cOb o ad (sa 0) (sb 0) tr (upd x 3 0), [(ad 0, .inl (D.1 105, 8, .inr (.inr (.inr (.inr (rF sh 8))))))], slP D sh (setR rw i (some (a, 1, n9, upd f9 j (mCut 1 v)))) 8] rfl rfl ?_
          refine z_eq (lv₂ := [(0, .ref o), (1, .int (nI i)), (2, .int (nI j)), (3, .int v)]) (st₂ := [.int (mCut 1 v)]) ?_ rfl rfl
          exact z_rim gX hQX (mCut 1 v, upd xm 0 0, upd it (40 * i + j) (mCut 1 v), setR rw i (some (a, 1, n9, upd f9 j (mCut 1 v)))) (⟨by simp only [mSet, k4, if_true, nI_clamp (show i < 2 ^ 31 by omega), hsz, hlie, hwd, nI_clamp (show j < 2 ^ 31 by omega)]; rw [if_neg (nI_pos (by omega))] <;> rfl, hW.set (by omega) hrr hj⟩) rfl (by simp only [pk_us]) (by first | decide | omega) (by first | decide | omega) dX0_set_25
        · skip
          refine z_get (pc := 12) gX (zI_ok gX hAX) (zm 0 rfl) (ci := 0) (C := RX0) (T := TX0) (N := 14) rfl in_X0 0 (by decide) q207 (fun _ h => h) (v := .ref (ad 0)) rfl dX0_set_12 ?_
          refine z_iload_n (pc := 15) gX 1 dX0_set_15 rfl rfl ?_
          refine z_ald (pc := 16) gX (zI_ok gX hAX) (j := i) (n := 8) (f := (rF sh 8)) (zm 1 rfl) 5 rfl (by omega) (by decide) (sh i) (rF_lt (by omega)) dX0_set_16 ?_
          refine z_iload_n (pc := 17) gX 2 dX0_set_17 rfl rfl ?_
          refine z_iload_n (pc := 18) gX 3 dX0_set_18 rfl rfl ?_
          refine z_xVN (pc := 19) gX hAX [.int i_, .int v] [.ref o] [2, 3] [0, 1, 4] (fun A1 => met_X1_putZ_1 l D B0 A1 (sh i) a n9 f9 i_ v (by first | assumption | omega) hn9 hout) (zm 8 rfl) q414 qs4 q48 q415 (zm 2 rfl) (ci := 1) rfl hd_X1_put ⟨rfl, rfl⟩ ⟨(Nat.le_of_ble_eq_true rfl), (Nat.le_of_ble_eq_true rfl)⟩ rfl rfl rfl rfl rfl (Nat.le_of_ble_eq_true rfl) ⟨(Nat.le_of_ble_eq_true rfl), (Nat.le_of_ble_eq_true rfl)⟩ dX0_set_19 (fun E_19 u_19 => ?_) (fun _ hF => hF.elim)
          refine z_xpx (E0 := "java/lang/ArrayIndexOutOfBoundsException") (PX1 := fun q_ => True) (fun _ h => h) ?_
          refine z_xper [2, 3, 0, 1, 4] [cOb o ad (sa 0) (sb 0) tr x, [(ad 0, .inl (D.1 105, 8, .inr (.inr (.inr (.inr (rF sh 8))))))], [(sh i, .inr (1, [.ref a]))], [(a, .inl (D.1 102, n9, .inl f9))], slR D sh rw i] rfl rfl ?_
          refine z_xcatch (E := "java/lang/ArrayIndexOutOfBoundsException") gX [(10, 25, 26, 113), (10, 25, 34, 115)] htabX [⟨10, 25, 26, 113⟩] ⟨10, 25, 34, 115⟩ [] rfl (List.forall_mem_cons.mpr ⟨Or.inr ⟨by decide, "java/lang/NullPointerException", gX.ts _ q368, gX.zk.nc (fun _ _ h => flat_of_before _ h _ (by decide +kernel))⟩, fun _ h => absurd h List.not_mem_nil⟩) (by decide) (by decide) q393 (va_any rfl (gX.zk.cast q408)) (fun x_19 hx_19 => ?_)
          refine z_astore (pc := 34) gX [1, 2, 3, 4, 0] [(0, .ref o), (1, .int (nI i)), (2, .int i_), (3, .int v), (4, .ref x_19)] dX0_set_34 (by decide) rfl ?_
          refine z_ws [cOb o ad (sa 0) (sb 0) tr x, [(ad 0, .inl (D.1 105, 8, .inr (.inr (.inr (.inr (rF sh 8))))))], slP D sh (setR rw i (some (a, 1, n9, f9))) 8] (gs_perm (slP D sh (setR rw i (some (a, 1, n9, f9))) 8) 2 3 rfl (sl_cs (D := D) (sh := sh) (rw := rw) (i := i) (a := a) (w := 1) (n := n9) (f := f9) (by omega))) ?_
          refine z_aload_n (pc := 36) gX 0 dX0_set_36 rfl rfl ?_
          refine z_iconst (pc := 37) gX 2 dX0_set_37 (by decide) ?_
          refine z_cMV (pc := 38) gX hAX [.int 2] [] [0] [1, 2] (fun A1 => met_X0_found l D B0 A1 o ad sa sb tr x 2 ) q358 q360 qs3 q47 q361 (zm 0 rfl) (ci := 0) rfl rfl hd_X0_found ⟨rfl, rfl⟩ ⟨(Nat.le_of_ble_eq_true rfl), (Nat.le_of_ble_eq_true rfl)⟩ rfl rfl rfl rfl rfl (Nat.le_of_ble_eq_true rfl) ⟨(Nat.le_of_ble_eq_true rfl), (Nat.le_of_ble_eq_true rfl)⟩ dX0_set_38 ?_
          intro _ hu38
          refine z_re [0, 1, 2] [cOb o ad (sa 0) (sb 0) tr (upd x 3 2), [(ad 0, .inl (D.1 105, 8, .inr (.inr (.inr (.inr (rF sh 8))))))], slP D sh (setR rw i (some (a, 1, n9, f9))) 8] rfl rfl ?_
          refine z_eq (lv₂ := [(0, .ref o), (1, .int (nI i)), (2, .int i_), (3, .int v), (4, .ref x_19)]) (st₂ := [.int (-1000010 - 2)]) ?_ rfl rfl
          exact z_rim gX hQX (-1000010 - 2, mSt xm (-1000012), it, setR rw i (some (a, 1, n9, f9))) (⟨by simp only [mSet, k4, if_true, nI_clamp (show i < 2 ^ 31 by omega), hsz, hlie]; rw [if_neg (nI_pos (by omega)), if_neg (by decide)] <;> rfl, by rw [(show setR rw i (some (a, 1, n9, f9)) = rw by rw [← hrr]; exact setR_id)]; exact hW⟩) rfl (by simp only [mSt_p, pk_us] <;> rfl) (by first | decide | omega) (by first | decide | omega) dX0_set_41
      · skip
        refine z_ws [cOb o ad (sa 0) (sb 0) tr x, [(ad 0, .inl (D.1 105, 8, .inr (.inr (.inr (.inr (rF sh 8))))))], [(sh i, .inr (1, [.ref a]))], [(a, .inl (D.1 100, n9, .inl f9))], slR D sh rw i] (sg_perm [[(sh i, .inr (1, [.ref a]))], [(a, .inl (D.1 100, n9, .inl f9))], slR D sh rw i] 2 rfl rfl (sl_os (D := D) (sh := sh) (rw := rw) (i := i) (w := 2) (by omega) hrr)) ?_
        refine z_aload_n (pc := 11) gX 0 dX0_set_11 rfl rfl ?_
        rcases lies1 (i := i_) hn9 with ⟨hin, j, hj, rfl, hlie⟩ | ⟨hout, hlie⟩
        · skip
          refine z_get (pc := 12) gX (zI_ok gX hAX) (zm 0 rfl) (ci := 0) (C := RX0) (T := TX0) (N := 14) rfl in_X0 0 (by decide) q207 (fun _ h => h) (v := .ref (ad 0)) rfl dX0_set_12 ?_
          refine z_iload_n (pc := 15) gX 1 dX0_set_15 rfl rfl ?_
          refine z_ald (pc := 16) gX (zI_ok gX hAX) (j := i) (n := 8) (f := (rF sh 8)) (zm 1 rfl) 5 rfl (by omega) (by decide) (sh i) (rF_lt (by omega)) dX0_set_16 ?_
          refine z_iload_n (pc := 17) gX 2 dX0_set_17 rfl rfl ?_
          refine z_iload_n (pc := 18) gX 3 dX0_set_18 rfl rfl ?_
          refine z_cMVN (pc := 19) gX hAX [.int (nI j), .int v] [.ref o] [2, 3] [0, 1, 4] (fun A1 => met_X1_put_2 l D B0 A1 (sh i) a n9 f9 j v hn9 hj) (zm 8 rfl) q414 qs4 q48 hd_X1_put q415 (zm 2 rfl) (ci := 1) rfl ⟨rfl, rfl⟩ ⟨(Nat.le_of_ble_eq_true rfl), (Nat.le_of_ble_eq_true rfl)⟩ rfl rfl rfl rfl rfl (Nat.le_of_ble_eq_true rfl) ⟨(Nat.le_of_ble_eq_true rfl), (Nat.le_of_ble_eq_true rfl)⟩ dX0_set_19 ?_
          intro _ hu19
          refine z_re [2, 3, 0, 1, 4] [cOb o ad (sa 0) (sb 0) tr x, [(ad 0, .inl (D.1 105, 8, .inr (.inr (.inr (.inr (rF sh 8))))))], [(sh i, .inr (1, [.ref a]))], [(a, .inl (D.1 100, n9, .inl (upd f9 j (mCut 2 v))))], slR D sh rw i] rfl rfl ?_
          refine z_eq (lv₂ := [(0, .ref o), (1, .int (nI i)), (2, .int (nI j)), (3, .int v)]) (st₂ := [.int (mCut 2 v), .ref o]) ?_ rfl rfl
          refine z_ws [cOb o ad (sa 0) (sb 0) tr x, [(ad 0, .inl (D.1 105, 8, .inr (.inr (.inr (.inr (rF sh 8))))))], slP D sh (setR rw i (some (a, 2, n9, upd f9 j (mCut 2 v)))) 8] (gs_perm (slP D sh (setR rw i (some (a, 2, n9, upd f9 j (mCut 2 v)))) 8) 2 3 rfl (sl_cs (D := D) (sh := sh) (rw := rw) (i := i) (a := a) (w := 2) (n := n9) (f := upd f9 j (mCut 2 v)) (by omega))) ?_
          refine z_cMV (pc := 22) gX hAX [.int (mCut 2 v)] [] [0] [1, 2] (fun A1 => met_X0_well l D B0 A1 o ad sa sb tr x (mCut 2 v) ) q354 q356 qs2 q47 q357 (zm 0 rfl) (ci := 0) rfl rfl hd_X0_well ⟨rfl, rfl⟩ ⟨(Nat.le_of_ble_eq_true rfl), (Nat.le_of_ble_eq_true rfl)⟩ rfl rfl rfl rfl rfl (Nat.le_of_ble_eq_true rfl) ⟨(Nat.le_of_ble_eq_true rfl), (Nat.le_of_ble_eq_true rfl)⟩ dX0_set_22 ?_
          intro _ hu22
          refine z_re [0, 1, 2] [cOb o ad (sa 0) (sb 0) tr (upd x 3 0), [(ad 0, .inl (D.1 105, 8, .inr (.inr (.inr (.inr (rF sh 8))))))], slP D sh (setR rw i (some (a, 2, n9, upd f9 j (mCut 2 v)))) 8] rfl rfl ?_
          refine z_eq (lv₂ := [(0, .ref o), (1, .int (nI i)), (2, .int (nI j)), (3, .int v)]) (st₂ := [.int (mCut 2 v)]) ?_ rfl rfl
          exact z_rim gX hQX (mCut 2 v, upd xm 0 0, upd it (40 * i + j) (mCut 2 v), setR rw i (some (a, 2, n9, upd f9 j (mCut 2 v)))) (⟨by simp only [mSet, k4, if_true, nI_clamp (show i < 2 ^ 31 by omega), hsz, hlie, hwd, nI_clamp (show j < 2 ^ 31 by omega)]; rw [if_neg (nI_pos (by omega))] <;> rfl, hW.set (by omega) hrr hj⟩) rfl (by simp only [pk_us]) (by first | decide | omega) (by first | decide | omega) dX0_set_25
        · skip
          refine z_get (pc := 12) gX (zI_ok gX hAX) (zm 0 rfl) (ci := 0) (C := RX0) (T := TX0) (N := 14) rfl in_X0 0 (by decide) q207 (fun _ h => h) (v := .ref (ad 0)) rfl dX0_set_12 ?_
          refine z_iload_n (pc := 15) gX 1 dX0_set_15 rfl rfl ?_
          refine z_ald (pc := 16) gX (zI_ok gX hAX) (j := i) (n := 8) (f := (rF sh 8)) (zm 1 rfl) 5 rfl (by omega) (by decide) (sh i) (rF_lt (by omega)) dX0_set_16 ?_
          refine z_iload_n (pc := 17) gX 2 dX0_set_17 rfl rfl ?_
          refine z_iload_n (pc := 18) gX 3 dX0_set_18 rfl rfl ?_
          refine z_xVN (pc := 19) gX hAX [.int i_, .int v] [.ref o] [2, 3] [0, 1, 4] (fun A1 => met_X1_putZ_2 l D B0 A1 (sh i) a n9 f9 i_ v (by first | assumption | omega) hn9 hout) (zm 8 rfl) q414 qs4 q48 q415 (zm 2 rfl) (ci := 1) rfl hd_X1_put ⟨rfl, rfl⟩ ⟨(Nat.le_of_ble_eq_true rfl), (Nat.le_of_ble_eq_true rfl)⟩ rfl rfl rfl rfl rfl (Nat.le_of_ble_eq_true rfl) ⟨(Nat.le_of_ble_eq_true rfl), (Nat.le_of_ble_eq_true rfl)⟩ dX0_set_19 (fun E_19 u_19 => ?_) (fun _ hF => hF.elim)
          refine z_xpx (E0 := "java/lang/ArrayIndexOutOfBoundsException") (PX1 := fun q_ => True) (fun _ h => h) ?_
          refine z_xper [2, 3, 0, 1, 4] [cOb o ad (sa 0) (sb 0) tr x, [(ad 0, .inl (D.1 105, 8, .inr (.inr (.inr (.inr (rF sh 8))))))], [(sh i, .inr (1, [.ref a]))], [(a, .inl (D.1 100, n9, .inl f9))], slR D sh rw i] rfl rfl ?_
          refine z_xcatch (E := "java/lang/ArrayIndexOutOfBoundsException") gX [(10, 25, 26, 113), (10, 25, 34, 115)] htabX [⟨10, 25, 26, 113⟩] ⟨10, 25, 34, 115⟩ [] rfl (List.forall_mem_cons.mpr ⟨Or.inr ⟨by decide, "java/lang/NullPointerException", gX.ts _ q368, gX.zk.nc (fun _ _ h => flat_of_before _ h _ (by decide +kernel))⟩, fun _ h => absurd h List.not_mem_nil⟩) (by decide) (by decide) q393 (va_any rfl (gX.zk.cast q408)) (fun x_19 hx_19 => ?_)
          refine z_astore (pc := 34) gX [1, 2, 3, 4, 0] [(0, .ref o), (1, .int (nI i)), (2, .int i_), (3, .int v), (4, .ref x_19)] dX0_set_34 (by decide) rfl ?_
          refine z_ws [cOb o ad (sa 0) (sb 0) tr x, [(ad 0, .inl (D.1 105, 8, .inr (.inr (.inr (.inr (rF sh 8))))))], slP D sh (setR rw i (some (a, 2, n9, f9))) 8] (gs_perm (slP D sh (setR rw i (some (a, 2, n9, f9))) 8) 2 3 rfl (sl_cs (D := D) (sh := sh) (rw := rw) (i := i) (a := a) (w := 2) (n := n9) (f := f9) (by omega))) ?_
          refine z_aload_n (pc := 36) gX 0 dX0_set_36 rfl rfl ?_
          refine z_iconst (pc := 37) gX 2 dX0_set_37 (by decide) ?_
          refine z_cMV (pc := 38) gX hAX [.int 2] [] [0] [1, 2] (fun A1 => met_X0_found l D B0 A1 o ad sa sb tr x 2 ) q358 q360 qs3 q47 q361 (zm 0 rfl) (ci := 0) rfl rfl hd_X0_found ⟨rfl, rfl⟩ ⟨(Nat.le_of_ble_eq_true rfl), (Nat.le_of_ble_eq_true rfl)⟩ rfl rfl rfl rfl rfl (Nat.le_of_ble_eq_true rfl) ⟨(Nat.le_of_ble_eq_true rfl), (Nat.le_of_ble_eq_true rfl)⟩ dX0_set_38 ?_
          intro _ hu38
          refine z_re [0, 1, 2] [cOb o ad (sa 0) (sb 0) tr (upd x 3 2), [(ad 0, .inl (D.1 105, 8, .inr (.inr (.inr (.inr (rF sh 8))))))], slP D sh (setR rw i (some (a, 2, n9, f9))) 8] rfl rfl ?_
          refine z_eq (lv₂ := [(0, .ref o), (1, .int (nI i)), (2, .int i_), (3, .int v), (4, .ref x_19)]) (st₂ := [.int (-1000010 - 2)]) ?_ rfl rfl
          exact z_rim gX hQX (-1000010 - 2, mSt xm (-1000012), it, setR rw i (some (a, 2, n9, f9))) (⟨by simp only [mSet, k4, if_true, nI_clamp (show i < 2 ^ 31 by omega), hsz, hlie]; rw [if_neg (nI_pos (by omega)), if_neg (by decide)] <;> rfl, by rw [(show setR rw i (some (a, 2, n9, f9)) = rw by rw [← hrr]; exact setR_id)]; exact hW⟩) rfl (by simp only [mSt_p, pk_us] <;> rfl) (by first | decide | omega) (by first | decide | omega) dX0_set_41
  · skip
    have k4 : (mIn row 0 7) = false := bI_eq0 c4
    refine z_ldc (pc := 7) gX q350 dX0_set_7 ?_
    exact z_rim gX hQX (-1000001, xm, it, rw) (⟨by simp [mSet, k4], hW⟩) rfl (by simp only [show upd x 3 (xm 0) = x by rw [← hx3]; exact upd_self _ _]) (by first | decide | omega) (by first | decide | omega) dX0_set_9
theorem hd_X0_set : zHd yX0_set 3 := by unfold zHd; decide +kernel

set_option maxHeartbeats 4000000 in
theorem met_X0_drop (l : Launch) (D : va_G) (B0 : Nat) (A : Nat → Prop) (o : Nat) (ad : Nat → Nat) (sa : Nat → Nat) (sb : Nat → Nat) (tr : Nat) (x : Nat → Int32) (sh : Nat → Nat) (rw : Nat → rT) (xm : Nat → Int32) (sz : Nat → Int32) (wd : Nat → Int32) (it : Nat → Int32) (row : Int32) (hl : l.stackTraces = false) (hx3 : x 3 = xm 0) (hW : rwR rw sz wd it) : Met l yX0_drop (wsW_ yX0_drop cX0_drop 5 (some .int) [(10, 24, 36, 113), (10, 24, 55, 0), (36, 43, 55, 0), (55, 57, 55, 0)]) (zRm 173 1 8) (va_Pc [.ref o, .int row] (zPre B0 D A [cOb o ad (sa 0) (sb 0) tr x, [(ad 0, .inl (D.1 105, 8, .inr (.inr (.inr (.inr (rF sh 8))))))], slP D sh rw 8])) (zQ (S := Int32 × (Nat → Int32) × (Nat → Int32) × (Nat → rT)) (fun u => (fun (r_ : Int32) (xm1 : Nat → Int32) (sz1 : Nat → Int32) (rw1 : Nat → rT) => (r_, xm1, sz1) = mDrop xm sz row ∧ rwR rw1 sz1 wd it) u.1 u.2.1 u.2.2.1 u.2.2.2) (fun u => (fun (r_ : Int32) (xm1 : Nat → Int32) (sz1 : Nat → Int32) (rw1 : Nat → rT) => some (.int r_)) u.1 u.2.1 u.2.2.1 u.2.2.2) (fun u => (fun (r_ : Int32) (xm1 : Nat → Int32) (sz1 : Nat → Int32) (rw1 : Nat → rT) => [cOb o ad (sa 0) (sb 0) tr (upd x 3 (xm1 0)), [(ad 0, .inl (D.1 105, 8, .inr (.inr (.inr (.inr (rF sh 8))))))], slP D sh rw1 8]) u.1 u.2.1 u.2.2.1 u.2.2.2) D A) 1 8 A := by
  refine z_entryW (by decide +kernel) (Nat.le_of_ble_eq_true rfl) (fun pX eX sX mX argsX blX mtX cX QX hQX gX hAX hnm htabX => ?_)
  refine z_eq (lv₂ := [(0, .ref o), (1, .int row)]) (st₂ := []) ?_ rfl rfl
  refine z_iload_n (pc := 0) gX 1 dX0_drop_0 rfl rfl ?_
  refine z_cOS (pc := 1) gX (zI_ok gX hAX) [.int row] [] [] (met_X0_isRow l D B0 row ) q342 q343 q47 q344 hd_X0_isRow ⟨rfl, rfl⟩ ⟨(Nat.le_of_ble_eq_true rfl), (Nat.le_of_ble_eq_true rfl)⟩ rfl rfl rfl (Nat.le_of_ble_eq_true rfl) ⟨(Nat.le_of_ble_eq_true rfl), (Nat.le_of_ble_eq_true rfl)⟩ dX0_drop_1 ?_
  intro _ hu1
  refine z_eq (lv₂ := [(0, .ref o), (1, .int row)]) (st₂ := [.int (bI (mIn row 0 7))]) ?_ rfl rfl
  refine z_if_ne (pc := 4) gX 10 dX0_drop_4 (by decide) (fun c4 => ?_) (fun c4 => ?_)
  · skip
    have k4 : (mIn row 0 7) = true := bI_ne0 c4
    obtain ⟨i, hi, rfl⟩ := mIn_nat k4 7 (by decide)
    rcases hrr : rw i with _ | ⟨a, w9, n9, f9⟩
    · skip
      have hsz := hW.none (by omega) hrr
      refine z_ws [cOb o ad (sa 0) (sb 0) tr x, [(ad 0, .inl (D.1 105, 8, .inr (.inr (.inr (.inr (rF sh 8))))))], [(sh i, .inr (1, [.null]))], slR D sh rw i] (sg_perm [[(sh i, .inr (1, [.null]))], slR D sh rw i] 2 rfl rfl (sl_on (D := D) (sh := sh) (rw := rw) (i := i) (by omega) hrr)) ?_
      refine z_aload_n (pc := 10) gX 0 dX0_drop_10 rfl rfl ?_
      refine z_aload_n (pc := 11) gX 0 dX0_drop_11 rfl rfl ?_
      refine z_get (pc := 12) gX (zI_ok gX hAX) (zm 0 rfl) (ci := 0) (C := RX0) (T := TX0) (N := 14) rfl in_X0 0 (by decide) q207 (fun _ h => h) (v := .ref (ad 0)) rfl dX0_drop_12 ?_
      refine z_iload_n (pc := 15) gX 1 dX0_drop_15 rfl rfl ?_
      refine z_ald (pc := 16) gX (zI_ok gX hAX) (j := i) (n := 8) (f := (rF sh 8)) (zm 1 rfl) 5 rfl (by omega) (by decide) (sh i) (rF_lt (by omega)) dX0_drop_16 ?_
      refine z_xVN (pc := 17) gX hAX [] [.ref o] [2] [0, 1, 3] (fun A1 => met_X1_manyN l D B0 A1 (sh i) (by first | assumption | omega)) (zm 9 rfl) q451 qs6 q48 q452 (zm 2 rfl) (ci := 1) rfl hd_X1_many ⟨rfl, rfl⟩ ⟨(Nat.le_of_ble_eq_true rfl), (Nat.le_of_ble_eq_true rfl)⟩ rfl rfl rfl rfl rfl (Nat.le_of_ble_eq_true rfl) ⟨(Nat.le_of_ble_eq_true rfl), (Nat.le_of_ble_eq_true rfl)⟩ dX0_drop_17 (fun E_17 u_17 => ?_) (fun _ hF => hF.elim)
      refine z_xpx (E0 := "java/lang/NullPointerException") (PX1 := fun q_ => True) (fun _ h => h) ?_
      refine z_xper [1, 2, 0, 3] [cOb o ad (sa 0) (sb 0) tr x, [(ad 0, .inl (D.1 105, 8, .inr (.inr (.inr (.inr (rF sh 8))))))], [(sh i, .inr (1, [.null]))], slR D sh rw i] rfl rfl ?_
      refine z_xcatch (E := "java/lang/NullPointerException") gX [(10, 24, 36, 113), (10, 24, 55, 0), (36, 43, 55, 0), (55, 57, 55, 0)] htabX [] ⟨10, 24, 36, 113⟩ [⟨10, 24, 55, 0⟩, ⟨36, 43, 55, 0⟩, ⟨55, 57, 55, 0⟩] rfl (fun _ h => absurd h List.not_mem_nil) (by decide) (by decide) q368 (va_any rfl (gX.zk.cast q390)) (fun x_17 hx_17 => ?_)
      refine z_astore_n (pc := 36) gX [1, 2, 0] [(0, .ref o), (1, .int (nI i)), (2, .ref x_17)] dX0_drop_36 rfl (by decide) rfl ?_
      refine z_aload_n (pc := 37) gX 0 dX0_drop_37 rfl rfl ?_
      refine z_iconst (pc := 38) gX 1 dX0_drop_38 (by decide) ?_
      refine z_cMV (pc := 39) gX hAX [.int 1] [] [0] [1, 2, 3] (fun A1 => met_X0_found l D B0 A1 o ad sa sb tr x 1 ) q358 q360 qs3 q47 q361 (zm 0 rfl) (ci := 0) rfl rfl hd_X0_found ⟨rfl, rfl⟩ ⟨(Nat.le_of_ble_eq_true rfl), (Nat.le_of_ble_eq_true rfl)⟩ rfl rfl rfl rfl rfl (Nat.le_of_ble_eq_true rfl) ⟨(Nat.le_of_ble_eq_true rfl), (Nat.le_of_ble_eq_true rfl)⟩ dX0_drop_39 ?_
      intro _ hu39
      refine z_re [0, 1, 2, 3] [cOb o ad (sa 0) (sb 0) tr (upd x 3 1), [(ad 0, .inl (D.1 105, 8, .inr (.inr (.inr (.inr (rF sh 8))))))], [(sh i, .inr (1, [.null]))], slR D sh rw i] rfl rfl ?_
      refine z_eq (lv₂ := [(0, .ref o), (1, .int (nI i)), (2, .ref x_17)]) (st₂ := [.int (-1000010 - 1)]) ?_ rfl rfl
      refine z_istore_n (pc := 42) gX [1, 2, 3, 0] [(0, .ref o), (1, .int (nI i)), (2, .ref x_17), (3, .int (-1000010 - 1))] dX0_drop_42 rfl (by decide) rfl ?_
      refine z_aload_n (pc := 43) gX 0 dX0_drop_43 rfl rfl ?_
      refine z_get (pc := 44) gX (zI_ok gX hAX) (zm 0 rfl) (ci := 0) (C := RX0) (T := TX0) (N := 14) rfl in_X0 0 (by decide) q207 (fun _ h => h) (v := .ref (ad 0)) rfl dX0_drop_44 ?_
      refine z_iload_n (pc := 47) gX 1 dX0_drop_47 rfl rfl ?_
      refine z_ald (pc := 48) gX (zI_ok gX hAX) (j := i) (n := 8) (f := (rF sh 8)) (zm 1 rfl) 5 rfl (by omega) (by decide) (sh i) (rF_lt (by omega)) dX0_drop_48 ?_
      refine z_aconst_null (pc := 49) gX dX0_drop_49 ?_
      refine z_putN (pc := 50) gX hAX 2 rfl (ci := 1) (C := RX1) (T := TX1) (N := 1) rfl in_X1 tyX1 tyX1_ok nmX1 0 (by decide) (zm 1 rfl) (fun _ h => h) rfl (v := .null) rfl rfl (Nat.le_of_ble_eq_true rfl) [cOb o ad (sa 0) (sb 0) tr (upd x 3 1), [(ad 0, .inl (D.1 105, 8, .inr (.inr (.inr (.inr (rF sh 8))))))], [(sh i, .inr (1, [.null]))], slR D sh rw i] rfl dX0_drop_50 ?_
      refine z_ws [cOb o ad (sa 0) (sb 0) tr (upd x 3 1), [(ad 0, .inl (D.1 105, 8, .inr (.inr (.inr (.inr (rF sh 8))))))], slP D sh (setR rw i none) 8] (gs_perm (slP D sh (setR rw i none) 8) 2 2 rfl (sl_cn (D := D) (sh := sh) (rw := rw) (i := i) (by omega))) ?_
      refine z_iload_n (pc := 53) gX 3 dX0_drop_53 rfl rfl ?_
      exact z_rim gX hQX (-1000010 - 1, mSt xm (-1000011), sz, setR rw i none) (⟨by simp only [mDrop, k4, if_true, nI_clamp (show i < 2 ^ 31 by omega)]; rw [if_pos hsz] <;> rfl, by rw [(show setR rw i none = rw by rw [← hrr]; exact setR_id)]; exact hW⟩) rfl (by simp only [mSt_n, pk_us] <;> rfl) (by first | decide | omega) (by first | decide | omega) dX0_drop_54
    · skip
      obtain ⟨hw9, hn9, hsz, hwd, hit⟩ := hW.some (by omega) hrr
      refine z_aload_n (pc := 10) gX 0 dX0_drop_10 rfl rfl ?_
      rcases (show w9 = 0 ∨ w9 = 1 ∨ w9 = 2 by omega) with rfl | rfl | rfl
      · skip
        refine z_ws [cOb o ad (sa 0) (sb 0) tr x, [(ad 0, .inl (D.1 105, 8, .inr (.inr (.inr (.inr (rF sh 8))))))], [(sh i, .inr (1, [.ref a]))], [(a, .inl (D.1 101, n9, .inl f9))], slR D sh rw i] (sg_perm [[(sh i, .inr (1, [.ref a]))], [(a, .inl (D.1 101, n9, .inl f9))], slR D sh rw i] 2 rfl rfl (sl_os (D := D) (sh := sh) (rw := rw) (i := i) (w := 0) (by omega) hrr)) ?_
        refine z_aload_n (pc := 11) gX 0 dX0_drop_11 rfl rfl ?_
        refine z_get (pc := 12) gX (zI_ok gX hAX) (zm 0 rfl) (ci := 0) (C := RX0) (T := TX0) (N := 14) rfl in_X0 0 (by decide) q207 (fun _ h => h) (v := .ref (ad 0)) rfl dX0_drop_12 ?_
        refine z_iload_n (pc := 15) gX 1 dX0_drop_15 rfl rfl ?_
        refine z_ald (pc := 16) gX (zI_ok gX hAX) (j := i) (n := 8) (f := (rF sh 8)) (zm 1 rfl) 5 rfl (by omega) (by decide) (sh i) (rF_lt (by omega)) dX0_drop_16 ?_
        refine z_cOVN (pc := 17) gX (zI_ok gX hAX) [] [.ref o] [2, 3] (met_X1_many_0 l D B0 (sh i) a n9 f9 hn9) (zm 9 rfl) q451 qs6 q48 hd_X1_many q452 (zm 2 rfl) (ci := 1) rfl ⟨rfl, rfl⟩ ⟨(Nat.le_of_ble_eq_true rfl), (Nat.le_of_ble_eq_true rfl)⟩ rfl rfl rfl (Nat.le_of_ble_eq_true rfl) ⟨(Nat.le_of_ble_eq_true rfl), (Nat.le_of_ble_eq_true rfl)⟩ dX0_drop_17 ?_
        intro _ hu17
        refine z_eq (lv₂ := [(0, .ref o), (1, .int (nI i))]) (st₂ := [.int (nI n9), .ref o]) ?_ rfl rfl
        refine z_cMV (pc := 20) gX hAX [.int (nI n9)] [] [0] [1, 2, 3, 4] (fun A1 => met_X0_well l D B0 A1 o ad sa sb tr x (nI n9) ) q354 q356 qs2 q47 q357 (zm 0 rfl) (ci := 0) rfl rfl hd_X0_well ⟨rfl, rfl⟩ ⟨(Nat.le_of_ble_eq_true rfl), (Nat.le_of_ble_eq_true rfl)⟩ rfl rfl rfl rfl rfl (Nat.le_of_ble_eq_true rfl) ⟨(Nat.le_of_ble_eq_true rfl), (Nat.le_of_ble_eq_true rfl)⟩ dX0_drop_20 ?_
        intro _ hu20
        refine z_re [0, 1, 2, 3, 4] [cOb o ad (sa 0) (sb 0) tr (upd x 3 0), [(ad 0, .inl (D.1 105, 8, .inr (.inr (.inr (.inr (rF sh 8))))))], [(sh i, .inr (1, [.ref a]))], [(a, .inl (D.1 101, n9, .inl f9))], slR D sh rw i] rfl rfl ?_
        refine z_eq (lv₂ := [(0, .ref o), (1, .int (nI i))]) (st₂ := [.int (nI n9)]) ?_ rfl rfl
        refine z_istore_n (pc := 23) gX [1, 2, 0] [(0, .ref o), (1, .int (nI i)), (2, .int (nI n9))] dX0_drop_23 rfl (by decide) rfl ?_
        refine z_aload_n (pc := 24) gX 0 dX0_drop_24 rfl rfl ?_
        refine z_get (pc := 25) gX (zI_ok gX hAX) (zm 0 rfl) (ci := 0) (C := RX0) (T := TX0) (N := 14) rfl in_X0 0 (by decide) q207 (fun _ h => h) (v := .ref (ad 0)) rfl dX0_drop_25 ?_
        refine z_iload_n (pc := 28) gX 1 dX0_drop_28 rfl rfl ?_
        refine z_ald (pc := 29) gX (zI_ok gX hAX) (j := i) (n := 8) (f := (rF sh 8)) (zm 1 rfl) 5 rfl (by omega) (by decide) (sh i) (rF_lt (by omega)) dX0_drop_29 ?_
        refine z_aconst_null (pc := 30) gX dX0_drop_30 ?_
        refine z_putN (pc := 31) gX hAX 2 rfl (ci := 1) (C := RX1) (T := TX1) (N := 1) rfl in_X1 tyX1 tyX1_ok nmX1 0 (by decide) (zm 1 rfl) (fun _ h => h) rfl (v := .null) rfl rfl (Nat.le_of_ble_eq_true rfl) [cOb o ad (sa 0) (sb 0) tr (upd x 3 0), [(ad 0, .inl (D.1 105, 8, .inr (.inr (.inr (.inr (rF sh 8))))))], [(sh i, .inr (1, [.null]))], [(a, .inl (D.1 101, n9, .inl f9))], slR D sh rw i] rfl dX0_drop_31 ?_
        refine z_re [0, 1, 2, 4, 3] [cOb o ad (sa 0) (sb 0) tr (upd x 3 0), [(ad 0, .inl (D.1 105, 8, .inr (.inr (.inr (.inr (rF sh 8))))))], [(sh i, .inr (1, [.null]))], slR D sh rw i, [(a, .inl (D.1 101, n9, .inl f9))]] rfl rfl ?_
        refine z_drop [cOb o ad (sa 0) (sb 0) tr (upd x 3 0), [(ad 0, .inl (D.1 105, 8, .inr (.inr (.inr (.inr (rF sh 8))))))], [(sh i, .inr (1, [.null]))], slR D sh rw i] (by simp only [List.flatten_cons, List.flatten_nil, List.append_nil, ← List.append_assoc]; exact List.sublist_append_left _ _) ?_
        refine z_ws [cOb o ad (sa 0) (sb 0) tr (upd x 3 0), [(ad 0, .inl (D.1 105, 8, .inr (.inr (.inr (.inr (rF sh 8))))))], slP D sh (setR rw i none) 8] (gs_perm (slP D sh (setR rw i none) 8) 2 2 rfl (sl_cn (D := D) (sh := sh) (rw := rw) (i := i) (by omega))) ?_
        refine z_iload_n (pc := 34) gX 2 dX0_drop_34 rfl rfl ?_
        exact z_rim gX hQX (nI n9, mSt xm (sz i), upd sz i (-1), setR rw i none) (⟨by simp only [mDrop, k4, if_true, nI_clamp (show i < 2 ^ 31 by omega), hsz]; rw [if_neg (nI_pos (by omega))], hW.drop⟩) rfl (by simp only [hsz, mSt_0 hn9, pk_us]) (by first | decide | omega) (by first | decide | omega) dX0_drop_35
      · skip
        refine z_ws [cOb o ad (sa 0) (sb 0) tr x, [(ad 0, .inl (D.1 105, 8, .inr (.inr (.inr (.inr (rF sh 8))))))], [(sh i, .inr (1, [.ref a]))], [(a, .inl (D.1 102, n9, .inl f9))], slR D sh rw i] (sg_perm [[(sh i, .inr (1, [.ref a]))], [(a, .inl (D.1 102, n9, .inl f9))], slR D sh rw i] 2 rfl rfl (sl_os (D := D) (sh := sh) (rw := rw) (i := i) (w := 1) (by omega) hrr)) ?_
        refine z_aload_n (pc := 11) gX 0 dX0_drop_11 rfl rfl ?_
        refine z_get (pc := 12) gX (zI_ok gX hAX) (zm 0 rfl) (ci := 0) (C := RX0) (T := TX0) (N := 14) rfl in_X0 0 (by decide) q207 (fun _ h => h) (v := .ref (ad 0)) rfl dX0_drop_12 ?_
        refine z_iload_n (pc := 15) gX 1 dX0_drop_15 rfl rfl ?_
        refine z_ald (pc := 16) gX (zI_ok gX hAX) (j := i) (n := 8) (f := (rF sh 8)) (zm 1 rfl) 5 rfl (by omega) (by decide) (sh i) (rF_lt (by omega)) dX0_drop_16 ?_
        refine z_cOVN (pc := 17) gX (zI_ok gX hAX) [] [.ref o] [2, 3] (met_X1_many_1 l D B0 (sh i) a n9 f9 hn9) (zm 9 rfl) q451 qs6 q48 hd_X1_many q452 (zm 2 rfl) (ci := 1) rfl ⟨rfl, rfl⟩ ⟨(Nat.le_of_ble_eq_true rfl), (Nat.le_of_ble_eq_true rfl)⟩ rfl rfl rfl (Nat.le_of_ble_eq_true rfl) ⟨(Nat.le_of_ble_eq_true rfl), (Nat.le_of_ble_eq_true rfl)⟩ dX0_drop_17 ?_
        intro _ hu17
        refine z_eq (lv₂ := [(0, .ref o), (1, .int (nI i))]) (st₂ := [.int (nI n9), .ref o]) ?_ rfl rfl
        refine z_cMV (pc := 20) gX hAX [.int (nI n9)] [] [0] [1, 2, 3, 4] (fun A1 => met_X0_well l D B0 A1 o ad sa sb tr x (nI n9) ) q354 q356 qs2 q47 q357 (zm 0 rfl) (ci := 0) rfl rfl hd_X0_well ⟨rfl, rfl⟩ ⟨(Nat.le_of_ble_eq_true rfl), (Nat.le_of_ble_eq_true rfl)⟩ rfl rfl rfl rfl rfl (Nat.le_of_ble_eq_true rfl) ⟨(Nat.le_of_ble_eq_true rfl), (Nat.le_of_ble_eq_true rfl)⟩ dX0_drop_20 ?_
        intro _ hu20
        refine z_re [0, 1, 2, 3, 4] [cOb o ad (sa 0) (sb 0) tr (upd x 3 0), [(ad 0, .inl (D.1 105, 8, .inr (.inr (.inr (.inr (rF sh 8))))))], [(sh i, .inr (1, [.ref a]))], [(a, .inl (D.1 102, n9, .inl f9))], slR D sh rw i] rfl rfl ?_
        refine z_eq (lv₂ := [(0, .ref o), (1, .int (nI i))]) (st₂ := [.int (nI n9)]) ?_ rfl rfl
        refine z_istore_n (pc := 23) gX [1, 2, 0] [(0, .ref o), (1, .int (nI i)), (2, .int (nI n9))] dX0_drop_23 rfl (by decide) rfl ?_
        refine z_aload_n (pc := 24) gX 0 dX0_drop_24 rfl rfl ?_
        refine z_get (pc := 25) gX (zI_ok gX hAX) (zm 0 rfl) (ci := 0) (C := RX0) (T := TX0) (N := 14) rfl in_X0 0 (by decide) q207 (fun _ h => h) (v := .ref (ad 0)) rfl dX0_drop_25 ?_
        refine z_iload_n (pc := 28) gX 1 dX0_drop_28 rfl rfl ?_
        refine z_ald (pc := 29) gX (zI_ok gX hAX) (j := i) (n := 8) (f := (rF sh 8)) (zm 1 rfl) 5 rfl (by omega) (by decide) (sh i) (rF_lt (by omega)) dX0_drop_29 ?_
        refine z_aconst_null (pc := 30) gX dX0_drop_30 ?_
        refine z_putN (pc := 31) gX hAX 2 rfl (ci := 1) (C := RX1) (T := TX1) (N := 1) rfl in_X1 tyX1 tyX1_ok nmX1 0 (by decide) (zm 1 rfl) (fun _ h => h) rfl (v := .null) rfl rfl (Nat.le_of_ble_eq_true rfl) [cOb o ad (sa 0) (sb 0) tr (upd x 3 0), [(ad 0, .inl (D.1 105, 8, .inr (.inr (.inr (.inr (rF sh 8))))))], [(sh i, .inr (1, [.null]))], [(a, .inl (D.1 102, n9, .inl f9))], slR D sh rw i] rfl dX0_drop_31 ?_
        refine z_re [0, 1, 2, 4, 3] [cOb o ad (sa 0) (sb 0) tr (upd x 3 0), [(ad 0, .inl (D.1 105, 8, .inr (.inr (.inr (.inr (rF sh 8))))))], [(sh i, .inr (1, [.null]))], slR D sh rw i, [(a, .inl (D.1 102, n9, .inl f9))]] rfl rfl ?_
        refine z_drop [cOb o ad (sa 0) (sb 0) tr (upd x 3 0), [(ad 0, .inl (D.1 105, 8, .inr (.inr (.inr (.inr (rF sh 8))))))], [(sh i, .inr (1, [.null]))], slR D sh rw i] (by simp only [List.flatten_cons, List.flatten_nil, List.append_nil, ← List.append_assoc]; exact List.sublist_append_left _ _) ?_
        refine z_ws [cOb o ad (sa 0) (sb 0) tr (upd x 3 0), [(ad 0, .inl (D.1 105, 8, .inr (.inr (.inr (.inr (rF sh 8))))))], slP D sh (setR rw i none) 8] (gs_perm (slP D sh (setR rw i none) 8) 2 2 rfl (sl_cn (D := D) (sh := sh) (rw := rw) (i := i) (by omega))) ?_
        refine z_iload_n (pc := 34) gX 2 dX0_drop_34 rfl rfl ?_
        exact z_rim gX hQX (nI n9, mSt xm (sz i), upd sz i (-1), setR rw i none) (⟨by simp only [mDrop, k4, if_true, nI_clamp (show i < 2 ^ 31 by omega), hsz]; rw [if_neg (nI_pos (by omega))], hW.drop⟩) rfl (by simp only [hsz, mSt_0 hn9, pk_us]) (by first | decide | omega) (by first | decide | omega) dX0_drop_35
      · skip
        refine z_ws [cOb o ad (sa 0) (sb 0) tr x, [(ad 0, .inl (D.1 105, 8, .inr (.inr (.inr (.inr (rF sh 8))))))], [(sh i, .inr (1, [.ref a]))], [(a, .inl (D.1 100, n9, .inl f9))], slR D sh rw i] (sg_perm [[(sh i, .inr (1, [.ref a]))], [(a, .inl (D.1 100, n9, .inl f9))], slR D sh rw i] 2 rfl rfl (sl_os (D := D) (sh := sh) (rw := rw) (i := i) (w := 2) (by omega) hrr)) ?_
        refine z_aload_n (pc := 11) gX 0 dX0_drop_11 rfl rfl ?_
        refine z_get (pc := 12) gX (zI_ok gX hAX) (zm 0 rfl) (ci := 0) (C := RX0) (T := TX0) (N := 14) rfl in_X0 0 (by decide) q207 (fun _ h => h) (v := .ref (ad 0)) rfl dX0_drop_12 ?_
        refine z_iload_n (pc := 15) gX 1 dX0_drop_15 rfl rfl ?_
        refine z_ald (pc := 16) gX (zI_ok gX hAX) (j := i) (n := 8) (f := (rF sh 8)) (zm 1 rfl) 5 rfl (by omega) (by decide) (sh i) (rF_lt (by omega)) dX0_drop_16 ?_
        refine z_cOVN (pc := 17) gX (zI_ok gX hAX) [] [.ref o] [2, 3] (met_X1_many_2 l D B0 (sh i) a n9 f9 hn9) (zm 9 rfl) q451 qs6 q48 hd_X1_many q452 (zm 2 rfl) (ci := 1) rfl ⟨rfl, rfl⟩ ⟨(Nat.le_of_ble_eq_true rfl), (Nat.le_of_ble_eq_true rfl)⟩ rfl rfl rfl (Nat.le_of_ble_eq_true rfl) ⟨(Nat.le_of_ble_eq_true rfl), (Nat.le_of_ble_eq_true rfl)⟩ dX0_drop_17 ?_
        intro _ hu17
        refine z_eq (lv₂ := [(0, .ref o), (1, .int (nI i))]) (st₂ := [.int (nI n9), .ref o]) ?_ rfl rfl
        refine z_cMV (pc := 20) gX hAX [.int (nI n9)] [] [0] [1, 2, 3, 4] (fun A1 => met_X0_well l D B0 A1 o ad sa sb tr x (nI n9) ) q354 q356 qs2 q47 q357 (zm 0 rfl) (ci := 0) rfl rfl hd_X0_well ⟨rfl, rfl⟩ ⟨(Nat.le_of_ble_eq_true rfl), (Nat.le_of_ble_eq_true rfl)⟩ rfl rfl rfl rfl rfl (Nat.le_of_ble_eq_true rfl) ⟨(Nat.le_of_ble_eq_true rfl), (Nat.le_of_ble_eq_true rfl)⟩ dX0_drop_20 ?_
        intro _ hu20
        refine z_re [0, 1, 2, 3, 4] [cOb o ad (sa 0) (sb 0) tr (upd x 3 0), [(ad 0, .inl (D.1 105, 8, .inr (.inr (.inr (.inr (rF sh 8))))))], [(sh i, .inr (1, [.ref a]))], [(a, .inl (D.1 100, n9, .inl f9))], slR D sh rw i] rfl rfl ?_
        refine z_eq (lv₂ := [(0, .ref o), (1, .int (nI i))]) (st₂ := [.int (nI n9)]) ?_ rfl rfl
        refine z_istore_n (pc := 23) gX [1, 2, 0] [(0, .ref o), (1, .int (nI i)), (2, .int (nI n9))] dX0_drop_23 rfl (by decide) rfl ?_
        refine z_aload_n (pc := 24) gX 0 dX0_drop_24 rfl rfl ?_
        refine z_get (pc := 25) gX (zI_ok gX hAX) (zm 0 rfl) (ci := 0) (C := RX0) (T := TX0) (N := 14) rfl in_X0 0 (by decide) q207 (fun _ h => h) (v := .ref (ad 0)) rfl dX0_drop_25 ?_
        refine z_iload_n (pc := 28) gX 1 dX0_drop_28 rfl rfl ?_
        refine z_ald (pc := 29) gX (zI_ok gX hAX) (j := i) (n := 8) (f := (rF sh 8)) (zm 1 rfl) 5 rfl (by omega) (by decide) (sh i) (rF_lt (by omega)) dX0_drop_29 ?_
        refine z_aconst_null (pc := 30) gX dX0_drop_30 ?_
        refine z_putN (pc := 31) gX hAX 2 rfl (ci := 1) (C := RX1) (T := TX1) (N := 1) rfl in_X1 tyX1 tyX1_ok nmX1 0 (by decide) (zm 1 rfl) (fun _ h => h) rfl (v := .null) rfl rfl (Nat.le_of_ble_eq_true rfl) [cOb o ad (sa 0) (sb 0) tr (upd x 3 0), [(ad 0, .inl (D.1 105, 8, .inr (.inr (.inr (.inr (rF sh 8))))))], [(sh i, .inr (1, [.null]))], [(a, .inl (D.1 100, n9, .inl f9))], slR D sh rw i] rfl dX0_drop_31 ?_
        refine z_re [0, 1, 2, 4, 3] [cOb o ad (sa 0) (sb 0) tr (upd x 3 0), [(ad 0, .inl (D.1 105, 8, .inr (.inr (.inr (.inr (rF sh 8))))))], [(sh i, .inr (1, [.null]))], slR D sh rw i, [(a, .inl (D.1 100, n9, .inl f9))]] rfl rfl ?_
        refine z_drop [cOb o ad (sa 0) (sb 0) tr (upd x 3 0), [(ad 0, .inl (D.1 105, 8, .inr (.inr (.inr (.inr (rF sh 8))))))], [(sh i, .inr (1, [.null]))], slR D sh rw i] (by simp only [List.flatten_cons, List.flatten_nil, List.append_nil, ← List.append_assoc]; exact List.sublist_append_left _ _) ?_
        refine z_ws [cOb o ad (sa 0) (sb 0) tr (upd x 3 0), [(ad 0, .inl (D.1 105, 8, .inr (.inr (.inr (.inr (rF sh 8))))))], slP D sh (setR rw i none) 8] (gs_perm (slP D sh (setR rw i none) 8) 2 2 rfl (sl_cn (D := D) (sh := sh) (rw := rw) (i := i) (by omega))) ?_
        refine z_iload_n (pc := 34) gX 2 dX0_drop_34 rfl rfl ?_
        exact z_rim gX hQX (nI n9, mSt xm (sz i), upd sz i (-1), setR rw i none) (⟨by simp only [mDrop, k4, if_true, nI_clamp (show i < 2 ^ 31 by omega), hsz]; rw [if_neg (nI_pos (by omega))], hW.drop⟩) rfl (by simp only [hsz, mSt_0 hn9, pk_us]) (by first | decide | omega) (by first | decide | omega) dX0_drop_35
  · skip
    have k4 : (mIn row 0 7) = false := bI_eq0 c4
    refine z_ldc (pc := 7) gX q350 dX0_drop_7 ?_
    exact z_rim gX hQX (-1000001, xm, sz, rw) (⟨by simp [mDrop, k4], hW⟩) rfl (by simp only [show upd x 3 (xm 0) = x by rw [← hx3]; exact upd_self _ _]) (by first | decide | omega) (by first | decide | omega) dX0_drop_9
theorem hd_X0_drop : zHd yX0_drop 1 := by unfold zHd; decide +kernel

