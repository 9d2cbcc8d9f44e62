set_option maxRecDepth 100000
/-! THE READER: all -/
section ZD
variable {p : Program} {l : Launch} {e : Env} {R : Room} {s : State} {m : MethodId} {args : Array Value} {below : List Frame} {meth : Method} {c : Code} {Q : State → Prop} {nL : Nat} {D : va_G} {A : Nat → Prop} {cells slots : Nat} {cc : ByteArray} {own : String} {ret : Option FieldType} {B0 : Nat} {pc : Nat} {lv lv' : List (Nat × Value)} {st : List Value} {ws ws' wc wr : List va_W} {I : Heap → List Loc → Prop}
theorem z_xdrop {E : String} {PX : Addr → Prop} (ws' : List va_W) (h : ws'.flatten.Sublist ws.flatten) (k : (zX p l e R s m args below meth c Q nL (zI D A s ws') (cells) (slots) (pc) lv E PX)) : (zX p l e R s m args below meth c Q nL (zI D A s ws) (cells) (slots) (pc) lv E PX) := by
  intro H locs ls q ce rest hp hI hl
  have hd := zD_iff.mp hI.2.1
  exact k H locs ls q ce rest hp ⟨zP_mem hI.1 (fun q hq => h.subset hq), zD_iff.mpr ⟨(h.map _).nodup hd.1, fun q hq => hd.2 q (h.subset hq)⟩, hI.2.2⟩ hl
end ZD
theorem fl_drop (ws : List va_W) (k : Nat) : (ws.take k).flatten.Sublist ws.flatten := by
  have e : ws.flatten = (ws.take k).flatten ++ (ws.drop k).flatten := by rw [← List.flatten_append, List.take_append_drop]
  rw [e]; exact List.sublist_append_left _ _
theorem let_case (tp : Nat → Int32) (t : Nat) {v : Int32} (hv : mIn v 97 122 = true) (p : Nat) :
    (nxT tp t p = 1 ∧ nxV tp t p = v ∧ ∀ d : Nat → Int32, pSign tp t v (p, d) = .inr (nxP tp t p, d)) ∨ (¬ (nxT tp t p = 1 ∧ nxV tp t p = v) ∧ ∀ d : Nat → Int32, pSign tp t v (p, d) = .inl (1, p)) := by
  by_cases h : ltA tp t p = v
  · obtain ⟨h1, h2⟩ := (tok_let hv).mpr h
    exact Or.inl ⟨h1, h2, fun d => by simp only [pSign]; rw [if_pos h, tok_let_p (by rw [h]; exact hv)]⟩
  · exact Or.inr ⟨fun z => h ((tok_let hv).mp z), fun d => by simp only [pSign]; rw [if_neg h]⟩
theorem isr_b {tp : Nat → Int32} {t p : Nat} : (decide (nxT tp t p = 1) && decide (0 ≤ sxI (nxV tp t p))) = !decide (mKindB (ltA tp t p) = 0) := by
  have h := tok_rid (tp := tp) (t := t) (p := p)
  by_cases e : mKindB (ltA tp t p) = 0
  · rw [decide_eq_true e]
    have : ¬ (nxT tp t p = 1 ∧ 0 ≤ sxI (nxV tp t p)) := fun z => h.mp z e
    simp only [Bool.not_true]
    by_cases q : nxT tp t p = 1
    · rw [decide_eq_true q, decide_eq_false (fun z => this ⟨q, z⟩)]; rfl
    · rw [decide_eq_false q]; rfl
  · have z := h.mpr e
    rw [decide_eq_true z.1, decide_eq_true z.2, decide_eq_false e]; rfl
theorem loop_s {tp : Nat → Int32} {t m f : Nat} {d : Nat → Int32} (hm : m < 8) (h : f < t ∨ m = 0) : pLoop tp t (8 - m) m (f, d) = sB (pRid tp t m (f, d)) (pLoop tp t (8 - (m + 1)) (m + 1)) := by
  rw [show 8 - m = (8 - (m + 1)) + 1 by omega]
  simp only [pLoop]
  rw [if_pos h]
theorem loop_e {tp : Nat → Int32} {t m f : Nat} {d : Nat → Int32} (hm : m < 8) (h : ¬ (f < t ∨ m = 0)) : pLoop tp t (8 - m) m (f, d) = .inr (f, d) := by
  rw [show 8 - m = (8 - (m + 1)) + 1 by omega]
  simp only [pLoop]
  rw [if_neg h]
/-- what has been made, m riders of it -/
def mdOK (T T1 : va_W) (m : Nat) (ra : Nat → Nat) (ln wh dd : Nat → Int32) (sp : Int32) (k : Nat) : Prop := T.Sublist T1 ∧ dd 17 = nI m ∧ (∀ r, r < 7 → ln r = dd (9 + r) ∧ wh r = dd (2 + r)) ∧ rOK T1 m ra (fun r => dd (18 + r)) ∧ (∀ r, r < m → (dd (9 + r) = 0 ∨ dd (9 + r) = 1) ∧ dd (2 + r) = -1) ∧ dd 0 = 0 ∧ dd 1 = sp ∧ dd 16 = nI k
def ridD (dd : Nat → Int32) (m kk : Nat) (v : Int32) : Nat → Int32 := upd (upd (upd (upd dd (18 + m) (nI kk)) (2 + m) (-1)) (9 + m) v) 17 (upd (upd (upd dd (18 + m) (nI kk)) (2 + m) (-1)) (9 + m) v 17 + 1)
theorem ridD_l {dd : Nat → Int32} {m kk r : Nat} {v : Int32} (hm : m < 7) (hr : r < 7) : ridD dd m kk v (9 + r) = if r = m then v else dd (9 + r) := by
  unfold ridD
  rw [pk_un (show 9 + r ≠ 17 by omega)]
  by_cases e : r = m
  · rw [e, pk_us, if_pos rfl]
  · rw [pk_un (by omega), pk_un (by omega), pk_un (by omega), if_neg e]
theorem ridD_w {dd : Nat → Int32} {m kk r : Nat} {v : Int32} (hm : m < 7) (hr : r < 7) : ridD dd m kk v (2 + r) = if r = m then -1 else dd (2 + r) := by
  unfold ridD
  rw [pk_un (show 2 + r ≠ 17 by omega), pk_un (show 2 + r ≠ 9 + m by omega)]
  by_cases e : r = m
  · rw [e, pk_us, if_pos rfl]
  · rw [pk_un (by omega), pk_un (by omega), if_neg e]
theorem mdOK.rid {T T1 : va_W} {m : Nat} {ra : Nat → Nat} {ln wh dd : Nat → Int32} {sp : Int32} {k : Nat} {kk q : Nat} {v : Int32} (h : mdOK T T1 m ra ln wh dd sp k) (hm : m < 7) (hk1 : 1 ≤ kk) (hk5 : kk ≤ 5) (hv : mIn v 0 1 = true) : mdOK T ((q, .inr (6 + kk, [.int (nI m)])) :: T1) (m + 1) (updN ra m q) (upd ln m v) (upd wh m (-1)) (ridD dd m kk v) sp k := by
  obtain ⟨h1, h2, h3, h4, h5, h6, h7, h8⟩ := h
  refine ⟨h1.trans (List.sublist_cons_self _ _), ?_, fun r hr => ?_, fun i hi => ?_, fun r hr => ?_, ?_, ?_, ?_⟩
  · simp only [ridD]; rw [pk_us, pk_un (by omega), pk_un (by omega), pk_un (by omega), h2, nI_1]
  · rw [ridD_l hm hr, ridD_w hm hr]
    by_cases e : r = m
    · rw [if_pos e, if_pos e, e]; exact ⟨pk_us, pk_us⟩
    · rw [if_neg e, if_neg e]; exact ⟨(pk_un e).trans (h3 r hr).1, (pk_un e).trans (h3 r hr).2⟩
  · by_cases e : i = m
    · subst e
      refine ⟨kk, hk1, hk5, ?_, ?_⟩
      · simp only [ridD]; rw [pk_un (by omega), pk_un (by omega), pk_un (by omega), pk_us]
      · rw [show updN ra i q i = q from if_pos rfl]; exact List.mem_cons_self
    · obtain ⟨k9, g1, g2, g3, g4⟩ := h4 i (by omega)
      refine ⟨k9, g1, g2, ?_, ?_⟩
      · simp only [ridD]; rw [pk_un (by omega), pk_un (by omega), pk_un (by omega), pk_un (by omega)]; exact g3
      · rw [show updN ra m q i = ra i from if_neg e]; exact List.mem_cons_of_mem _ g4
  · rw [ridD_l hm (by omega), ridD_w hm (by omega)]
    by_cases e : r = m
    · rw [if_pos e, if_pos e]; exact ⟨half01 hv, rfl⟩
    · rw [if_neg e, if_neg e]; exact h5 r (by omega)
  · simp only [ridD]; rw [pk_un (by omega), pk_un (by omega), pk_un (by omega), pk_un (by omega)]; exact h6
  · simp only [ridD]; rw [pk_un (by omega), pk_un (by omega), pk_un (by omega), pk_un (by omega)]; exact h7
  · simp only [ridD]; rw [pk_un (by omega), pk_un (by omega), pk_un (by omega), pk_un (by omega)]; exact h8

set_option maxHeartbeats 4000000 in
theorem met_X5_rider7 (l : Launch) (D : va_G) (B0 : Nat) (A : Nat → Prop) (q : Nat) (tx : Nat) (t : Nat) (p : Nat) (tk : Int32) (fr : Nat) (vl : Int32) (bt : Nat → Int32) (tp : Nat → Int32) (sm : Nat → Nat) (sp : Int32) (md : Int32) (d : Nat) (ln : Nat → Int32) (wh : Nat → Int32) (ra : Nat → Nat)  : vz_Met l yX5_rider (ws_ yX5_rider cX5_rider 3 none) (zRm 9 1 8) (va_Pc [.ref q] (zPre B0 D A [[(q, .inr (5, [.ref tx, .int (nI t), .int (nI p), .int tk, .int (nI fr), .int vl, .ref (sm 0)]))], [(tx, .inl (D.1 101, 90, .inl bt))], [(sm 0, .inr (2, [.int 0, .int sp, .int 0, .int 0, .ref (sm 1), .ref (sm 2), .ref (sm 3), .ref (sm 4)]))], [(sm 1, .inr (16, [.int md, .ref d, .int (nI 7)]))], [(sm 2, .inl (D.1 100, 7, .inl ln))], [(sm 3, .inl (D.1 100, 7, .inl wh))], [(sm 4, .inl (D.1 100, 7, .inl (fun _ => 0)))], [(d, .inl (D.1 104, 10, .inr (.inr (.inr (.inr (rF ra 7))))))]])) (zQ (S := Unit) (fun _ => False) (fun _ => none) (fun _ => []) D A) (zXC (S := Nat) (fun q_ E_ => fun u => (fun (z : Nat) => E_ = "StepRiders$Fault" ∧ q_ = z) u) (fun u => (fun (z : Nat) => [[(q, .inr (5, [.ref tx, .int (nI t), .int (nI p), .int tk, .int (nI fr), .int vl, .ref (sm 0)]))], [(tx, .inl (D.1 101, 90, .inl bt))], [(sm 0, .inr (2, [.int 0, .int sp, .int 0, .int 0, .ref (sm 1), .ref (sm 2), .ref (sm 3), .ref (sm 4)]))], [(sm 1, .inr (16, [.int md, .ref d, .int (nI 7)]))], [(sm 2, .inl (D.1 100, 7, .inl ln))], [(sm 3, .inl (D.1 100, 7, .inl wh))], [(sm 4, .inl (D.1 100, 7, .inl (fun _ => 0)))], [(d, .inl (D.1 104, 10, .inr (.inr (.inr (.inr (rF ra 7))))))], [(z, .inr (6, [.null, .null, .null, .null, .null, .int 0, .int 3, .int (nI fr)]))]]) u) D A) 1 8 A := by
  refine z_xentry (by decide +kernel) (Nat.le_of_ble_eq_true rfl) (fun pX eX sX mX argsX blX mtX cX QX hQX gX hAX hnm htX => ?_)
  refine z_eq (lv₂ := [(0, .ref q)]) (st₂ := []) ?_ rfl rfl
  refine z_aload_n (pc := 0) gX 0 dX5_rider_0 rfl rfl ?_
  refine z_get (pc := 1) gX (zI_ok gX hAX) (zm 0 rfl) (ci := 5) (C := RX5) (T := TX5) (N := 7) rfl in_X5 6 (by decide) q478 (fun _ h => h) (v := .ref (sm 0)) rfl dX5_rider_1 ?_
  refine z_cOV (pc := 4) gX (zI_ok gX hAX) [] [] [2, 3] (met_X2_many l D B0 sm 0 sp 0 0 md d 7 ) q652 q653 q654 q49 q655 (zm 2 rfl) (ci := 2) rfl rfl hd_X2_many ⟨rfl, rfl⟩ ⟨(Nat.le_of_ble_eq_true rfl), (Nat.le_of_ble_eq_true rfl)⟩ rfl rfl rfl (Nat.le_of_ble_eq_true rfl) ⟨(Nat.le_of_ble_eq_true rfl), (Nat.le_of_ble_eq_true rfl)⟩ dX5_rider_4 ?_
  intro _ hu4
  refine z_eq (lv₂ := [(0, .ref q)]) (st₂ := [.int (nI 7)]) ?_ rfl rfl
  refine z_istore_n (pc := 7) gX [1, 0] [(0, .ref q), (1, .int (nI 7))] dX5_rider_7 rfl (by decide) rfl ?_
  refine z_aload_n (pc := 8) gX 0 dX5_rider_8 rfl rfl ?_
  refine z_iload_n (pc := 9) gX 1 dX5_rider_9 rfl rfl ?_
  refine z_bipush (pc := 10) gX 7 dX5_rider_10 (by decide) ?_
  refine z_icmp_ge (pc := 12) gX 19 dX5_rider_12 (by decide) (fun c12 => ?_) (fun c12 => ?_)
  · skip
    have k12 : 7 ≤ 7 := (zn_le (a := 7) (b := 7) (by omega) (by omega)).mp c12
    refine z_iconst (pc := 19) gX 0 dX5_rider_19 (by decide) ?_
    refine z_iconst (pc := 20) gX 3 dX5_rider_20 (by decide) ?_
    refine z_xV (pc := 21) gX hAX [.int 0, .int 3] [] [0] [1, 2, 3, 4, 5, 6, 7] (fun A1 => met_X5_mustX l D B0 A1 q tx t p tk fr vl (sm 0) bt tp 0 3 rfl) q517 q519 qs10 q65 q520 (zm 0 rfl) (ci := 5) rfl rfl hd_X5_must ⟨rfl, rfl⟩ ⟨(Nat.le_of_ble_eq_true rfl), (Nat.le_of_ble_eq_true rfl)⟩ rfl rfl rfl rfl rfl (Nat.le_of_ble_eq_true rfl) ⟨(Nat.le_of_ble_eq_true rfl), (Nat.le_of_ble_eq_true rfl)⟩ dX5_rider_21 (fun E_21 u_21 => ?_) (fun _ hF => hF.elim)
    obtain ⟨z_21, rfl⟩ : ∃ z, z = u_21 := ⟨_, rfl⟩
    refine z_xpx (E0 := "StepRiders$Fault") (PX1 := fun q_ => q_ = z_21) (fun _ h => h) ?_
    refine z_xper [0, 2, 3, 4, 5, 6, 7, 8, 1] [[(q, .inr (5, [.ref tx, .int (nI t), .int (nI p), .int tk, .int (nI fr), .int vl, .ref (sm 0)]))], [(tx, .inl (D.1 101, 90, .inl bt))], [(sm 0, .inr (2, [.int 0, .int sp, .int 0, .int 0, .ref (sm 1), .ref (sm 2), .ref (sm 3), .ref (sm 4)]))], [(sm 1, .inr (16, [.int md, .ref d, .int (nI 7)]))], [(sm 2, .inl (D.1 100, 7, .inl ln))], [(sm 3, .inl (D.1 100, 7, .inl wh))], [(sm 4, .inl (D.1 100, 7, .inl (fun _ => 0)))], [(d, .inl (D.1 104, 10, .inr (.inr (.inr (.inr (rF ra 7))))))], [(z_21, .inr (6, [.null, .null, .null, .null, .null, .int 0, .int 3, .int (nI fr)]))]] rfl (zpl 9 rfl (by decide +kernel)) ?_
    exact z_xout gX hQX (htX _) (fun _ => z_21) (fun _ h => ⟨rfl, h⟩) (fun _ => rfl) (by first | decide | omega) (by first | decide | omega)
  · skip
    have k12 : 7 < 7 := (zn_nle (a := 7) (b := 7) (by omega) (by omega)).mp c12
    exact absurd c12 (by decide)

