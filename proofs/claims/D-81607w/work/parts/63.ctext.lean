set_option maxRecDepth 100000
/-! THE TEXT of the kinds: String.indexOf on it -/
section ZST
variable {p : Program} {l : Launch} {e : Env} {R : Room} {s : State} {m : MethodId} {args : Array Value} {below : List Frame} {meth : Method} {c : Code} {Q : State → Prop} {nL : Nat} {D : va_G} {A : Nat → Prop} {cells slots : Nat} {cc : ByteArray} {own : String} {ret : Option FieldType} {B0 : Nat} {pc : Nat} {lv lv' : List (Nat × Value)} {st : List Value} {ws ws' wc wr : List va_W} {I : Heap → List Loc → Prop}
theorem zK.cs {s : State} (k : zK B0 D s) : va_Z "java/lang/String" "COMPACT_STRINGS" "Z" (.int 1) (fun q => B0 ≤ q) s s.heap := by
  obtain ⟨U0, b, h1, h2, h3⟩ := k.2.2.2
  have h0 : va_Z "java/lang/String" "COMPACT_STRINGS" "Z" (.int 1) (fun q => B0 ≤ q) U0 U0.heap := va_Zof (h1.2.1 _ (by decide +kernel)) (h1.2.1 _ (by decide +kernel)) (by
    have h := flat_of_before _ h1.2.2.1 (Jvm.Cond.eq (Jvm.Term.static "java/lang/String" "COMPACT_STRINGS" "Z") (Jvm.Term.int (1 : Int32))) (by decide +kernel)
    obtain ⟨y, e1, e2⟩ := Cond.eq_one h
    have e3 : some (Value.int 1) = some y := e2
    cases e3
    exact e1) (fun a ha => by have := h1.1; omega)
  exact va_Z.moved h2.alike (va_Z.kept h0 (fun a ha hn => h3 a (by omega)))
theorem z_getCS (g : zG p s m args meth c cc nL own ret D B0) (o : zOK B0 D s ws I) {index : Nat} (q : Cond.fieldLink own index "java/lang/String" "COMPACT_STRINGS" "Z" ∈ lw_all) (d : decode cc pc = .ok (.getstatic index, 3)) (k : (zJ p l e R s m args below meth c Q nL (I) (cells) (slots) (pc + 3) (lv) (.int 1 :: st))) : (zJ p l e R s m args below meth c Q nL (I) (cells) (slots) (pc) (lv) (st)) := fun H locs ls hI hl => va_gets g.1 g.2.1 g.zk.cs (o.S hI g) g.ow (g.ts _ q) (fun x h => h) d (k H locs ls hI hl)
theorem z_ldcS (g : zG p s m args meth c cc nL own ret D B0) {index : Nat} {tx : String} (hZ : vk_R own index tx (zSK D) s) (d : decode cc pc = .ok (.ldc index, 2)) (k : (zJ p l e R s m args below meth c Q nL (I) (cells) (slots) (pc + 2) (lv) (.ref (zSK D) :: st))) : (zJ p l e R s m args below meth c Q nL (I) (cells) (slots) (pc) (lv) (st)) := fun H locs ls hI hl => va_ldcS g.1 g.2.1 g.ow hZ d (k H locs ls hI hl)
theorem z_strV (g : zG p s m args meth c cc nL own ret D B0) (o : zOK B0 D s ws I) {index : Nat} (q : Cond.fieldLink own index "java/lang/String" "value" "[B" ∈ lw_all) (d : decode cc pc = .ok (.getfield index, 3)) (k : (zJ p l e R s m args below meth c Q nL (I) (cells) (slots) (pc + 3) (lv) (.ref (zSV D) :: st))) : (zJ p l e R s m args below meth c Q nL (I) (cells) (slots) (pc) (lv) (.ref (zSK D) :: st)) := fun H locs ls hI hl => vk_getf g.1 g.2.1 (g.zk.strS.1 0 (by decide)).2.2.1 (o.S hI g) g.ow (g.ts _ q) (fun x h => h) d (k H locs ls hI hl)
theorem z_strC (g : zG p s m args meth c cc nL own ret D B0) (o : zOK B0 D s ws I) {index : Nat} (q : Cond.fieldLink own index "java/lang/String" "coder" "B" ∈ lw_all) (d : decode cc pc = .ok (.getfield index, 3)) (k : (zJ p l e R s m args below meth c Q nL (I) (cells) (slots) (pc + 3) (lv) (.int 0 :: st))) : (zJ p l e R s m args below meth c Q nL (I) (cells) (slots) (pc) (lv) (.ref (zSK D) :: st)) := fun H locs ls hI hl => vk_getf g.1 g.2.1 (g.zk.strS.1 0 (by decide)).2.1 (o.S hI g) g.ow (g.ts _ q) (fun x h => h) d (k H locs ls hI hl)
theorem z_strL (g : zG p s m args meth c cc nL own ret D B0) (o : zOK B0 D s ws I) (d : decode cc pc = .ok (.arraylength, 1)) (kk : (zJ p l e R s m args below meth c Q nL (I) (cells) (slots) (pc + 1) (lv) (.int 5 :: st))) : (zJ p l e R s m args below meth c Q nL (I) (cells) (slots) (pc) (lv) (.ref (zSV D) :: st)) := fun H locs ls hI hl => va_tlen g.1 g.2.1 (g.zk.strS.1 0 (by decide)).2.2.2 (o.S hI g) rfl d (kk H locs ls hI hl)
theorem z_strB (g : zG p s m args meth c cc nL own ret D B0) (o : zOK B0 D s ws I) {i : Int32} {v : Int32} (j : Nat) (hj : i.toNatClampNeg = j) (hv : ([115, 119, 114, 116, 99] : List Int32).getD j 0 = v) (hin : ¬ (i < 0 ∨ 5 ≤ i.toNatClampNeg)) (d : decode cc pc = .ok (.baload, 1)) (kk : (zJ p l e R s m args below meth c Q nL (I) (cells) (slots) (pc + 1) (lv) (.int v :: st))) : (zJ p l e R s m args below meth c Q nL (I) (cells) (slots) (pc) (lv) (.int i :: .ref (zSV D) :: st)) := fun H locs ls hI hl => va_tb g.1 g.2.1 (g.zk.strS.1 0 (by decide)).2.2.2 (o.S hI g) hin (by rw [hj, ← hv]; rfl) d (kk H locs ls hI hl)
theorem z_strR (g : zG p s m args meth c cc nL own ret D B0) (o : zOK B0 D s ws I) {H : Heap} {locs : List Loc} (hI : I H locs) : ∃ cell : Cell, H[zSK D]? = some cell ∧ cell.vm.isStatics = false ∧ s.vm.findClass "java/lang/String" = some cell.cls := vk_recv (adK := fun _ => zSK D) (i := 0) g.zk.strS (by decide) (o.S hI g)
theorem z_cOR {S : Type} {post : S → Prop} {val : S → Option Value} {y : MethodName} {bytes : ByteArray} {maxL n index b : Nat} {C : String} {rety : Option FieldType} {rm : Room} (g : zG p s m args meth c cc nL own ret D B0) (o : zOK B0 D s ws I) (As rest : List Value) {st0 : List Value} (is : List Nat) (hM : Met l y (ws_ y bytes maxL rety) rm (va_Pc (.ref b :: As) (zPreO B0 D wc)) (zQo post val) 0 0 (fun _ => False)) (q1 : Cond.methodLink own index y ∈ lw_all) (q2 : Cond.instanceMethod y ∈ lw_all) (q3 : Cond.selects C y y ∈ lw_all) (q4 : Cond.initialized C ∈ lw_all) (q5 : Cond.code y bytes maxL rety ∈ lw_all) (hr : ∀ (H : Heap) (locs : List Loc), I H locs → ∃ cell : Cell, H[b]? = some cell ∧ cell.vm.isStatics = false ∧ s.vm.findClass C = some cell.cls) (hcl : y.cls = C) (hd : zHd y n) (hrm : rm.cells = 0 ∧ rm.slots = 0) (hR : rm.frames + 1 ≤ R.frames ∧ 8 + (maxL + 11) + rm.locals ≤ R.locals) (hwc : zPick ws is = wc) (hn : As.length = n) (hst : st0 = As.reverse ++ .ref b :: rest) (hro : (rest.map fun v => v.category).sum ≤ 8) (hf : cells ≤ R.cells ∧ slots ≤ R.slots) (d : decode cc pc = .ok (.invokevirtual index, 3)) (kk : ∀ u : S, post u → (zJ p l e R s m args below meth c Q nL (I) (cells) (slots) (pc + 3) (lv) ((val u).toList ++ rest))) : (zJ p l e R s m args below meth c Q nL (I) (cells) (slots) (pc) (lv) (st0)) :=
  z_obs (len := 0) o (fun H locs ls hI hl => va_runV g.fix hM (cwV n g.ts (lw_V q1 q2 q3 q4 q5) rfl hrm.1 hrm.2 ⟨hcl, hd⟩ hR) ⟨zPreO.blind, hr H locs hI, z_preo (y := y) g o hI is hwc⟩ rfl hn hl.1 hst (lv_room hro) d hf) kk
end ZST
def sxI (v : Int32) : Int32 := mKindB v - 1
theorem byte_eq : ∀ j : Nat, j ≤ 255 → ∀ k : Nat, k ≤ 127 → ((nI j).toInt8.toInt32 = nI k ↔ j = k) := by decide +kernel
theorem sx_no {v : Int32} (h : mIn v 0 255 = false) : sxI v = -1 := by
  have h1 : ∀ w : Int32, mIn w 0 255 = true → ¬ v = w := fun w hw e => by rw [e, hw] at h; cases h
  simp only [sxI, mKindB, if_neg (h1 115 (by decide)), if_neg (h1 119 (by decide)), if_neg (h1 114 (by decide)), if_neg (h1 116 (by decide)), if_neg (h1 99 (by decide))]
  decide
theorem sx_at : ∀ j : Nat, j ≤ 255 → sxI (nI j) = if j = 115 then 0 else if j = 119 then 1 else if j = 114 then 2 else if j = 116 then 3 else if j = 99 then 4 else -1 := by decide +kernel

set_option maxHeartbeats 4000000 in
theorem met_J7_isLatin1 (l : Launch) (D : va_G) (B0 : Nat)   : Met l yJ7_isLatin1 (ws_ yJ7_isLatin1 cJ7_isLatin1 1 (some .boolean)) (zRm 1 0 0) (va_Pc [.ref (zSK D)] (zPreO B0 D [])) (zQo (S := Unit) (fun _ => True) (fun _ => some (.int (bI true)))) 0 0 (fun _ => False) := by
  refine z_entryo (by decide +kernel) (Nat.le_of_ble_eq_true rfl) (fun pX eX sX mX argsX blX mtX cX QX hQX gX => ?_)
  refine z_eq (lv₂ := [(0, .ref (zSK D))]) (st₂ := []) ?_ rfl rfl
  refine z_getCS (pc := 0) gX (zIo_ok gX) q574 dJ7_isLatin1_0 ?_
  refine z_if_eq (pc := 3) gX 17 dJ7_isLatin1_3 (by decide) (fun c3 => ?_) (fun c3 => ?_)
  · skip
    exact absurd c3 (by decide)
  · skip
    refine z_aload_n (pc := 6) gX 0 dJ7_isLatin1_6 rfl rfl ?_
    refine z_strC (pc := 7) gX (zIo_ok gX) q1755 dJ7_isLatin1_7 ?_
    refine z_if_ne (pc := 10) gX 17 dJ7_isLatin1_10 (by decide) (fun c10 => ?_) (fun c10 => ?_)
    · skip
      exact absurd c10 (by decide)
    · skip
      refine z_iconst (pc := 13) gX 1 dJ7_isLatin1_13 (by decide) ?_
      refine z_goto (pc := 14) gX 18 dJ7_isLatin1_14 (by decide) ?_
      exact z_rzo gX hQX rfl dJ7_isLatin1_18
theorem hd_J7_isLatin1 : zHd yJ7_isLatin1 0 := by unfold zHd; decide +kernel

set_option maxHeartbeats 4000000 in
theorem met_J7_coder (l : Launch) (D : va_G) (B0 : Nat)   : Met l yJ7_coder (ws_ yJ7_coder cJ7_coder 1 (some .byte)) (zRm 1 0 0) (va_Pc [.ref (zSK D)] (zPreO B0 D [])) (zQo (S := Unit) (fun _ => True) (fun _ => some (.int 0))) 0 0 (fun _ => False) := by
  refine z_entryo (by decide +kernel) (Nat.le_of_ble_eq_true rfl) (fun pX eX sX mX argsX blX mtX cX QX hQX gX => ?_)
  refine z_eq (lv₂ := [(0, .ref (zSK D))]) (st₂ := []) ?_ rfl rfl
  refine z_getCS (pc := 0) gX (zIo_ok gX) q574 dJ7_coder_0 ?_
  refine z_if_eq (pc := 3) gX 13 dJ7_coder_3 (by decide) (fun c3 => ?_) (fun c3 => ?_)
  · skip
    exact absurd c3 (by decide)
  · skip
    refine z_aload_n (pc := 6) gX 0 dJ7_coder_6 rfl rfl ?_
    refine z_strC (pc := 7) gX (zIo_ok gX) q1755 dJ7_coder_7 ?_
    refine z_goto (pc := 10) gX 14 dJ7_coder_10 (by decide) ?_
    exact z_ireto gX hQX (by decide) () trivial rfl dJ7_coder_14
theorem hd_J7_coder : zHd yJ7_coder 0 := by unfold zHd; decide +kernel

set_option maxHeartbeats 4000000 in
theorem met_J7_length (l : Launch) (D : va_G) (B0 : Nat)   : Met l yJ7_length (ws_ yJ7_length cJ7_length 1 (some .int)) (zRm 2 0 0) (va_Pc [.ref (zSK D)] (zPreO B0 D [])) (zQo (S := Unit) (fun _ => True) (fun _ => some (.int 5))) 0 0 (fun _ => False) := by
  refine z_entryo (by decide +kernel) (Nat.le_of_ble_eq_true rfl) (fun pX eX sX mX argsX blX mtX cX QX hQX gX => ?_)
  refine z_eq (lv₂ := [(0, .ref (zSK D))]) (st₂ := []) ?_ rfl rfl
  refine z_aload_n (pc := 0) gX 0 dJ7_length_0 rfl rfl ?_
  refine z_strV (pc := 1) gX (zIo_ok gX) q1756 dJ7_length_1 ?_
  refine z_strL (pc := 4) gX (zIo_ok gX) dJ7_length_4 ?_
  refine z_aload_n (pc := 5) gX 0 dJ7_length_5 rfl rfl ?_
  refine z_cOR (pc := 6) gX (zIo_ok gX) [] [.int 5] [] (met_J7_coder l D B0  ) q580 q581 q582 q59 q583 (fun H locs hI => z_strR gX (zIo_ok gX) hI) rfl hd_J7_coder ⟨rfl, rfl⟩ ⟨(Nat.le_of_ble_eq_true rfl), (Nat.le_of_ble_eq_true rfl)⟩ rfl rfl rfl (Nat.le_of_ble_eq_true rfl) ⟨(Nat.le_of_ble_eq_true rfl), (Nat.le_of_ble_eq_true rfl)⟩ dJ7_length_6 ?_
  intro _ hu6
  refine z_eq (lv₂ := [(0, .ref (zSK D))]) (st₂ := [.int 0, .int 5]) ?_ rfl rfl
  refine z_ishr (pc := 9) gX dJ7_length_9 ?_
  exact z_rio gX hQX (by decide) dJ7_length_10
theorem hd_J7_length : zHd yJ7_length 0 := by unfold zHd; decide +kernel

set_option maxHeartbeats 4000000 in
theorem met_J12_canEncode (l : Launch) (D : va_G) (B0 : Nat) (v : Int32)  : Met l yJ12_canEncode (ws_ yJ12_canEncode cJ12_canEncode 1 (some .boolean)) (zRm 1 0 0) (va_Pc [.int v] (zPreO B0 D [])) (zQo (S := Unit) (fun _ => True) (fun _ => some (.int (bI (mIn v 0 255))))) 0 0 (fun _ => False) := by
  refine z_entryo (by decide +kernel) (Nat.le_of_ble_eq_true rfl) (fun pX eX sX mX argsX blX mtX cX QX hQX gX => ?_)
  refine z_eq (lv₂ := [(0, .int v)]) (st₂ := []) ?_ rfl rfl
  refine z_iload_n (pc := 0) gX 0 dJ12_canEncode_0 rfl rfl ?_
  refine z_if_lt (pc := 1) gX 15 dJ12_canEncode_1 (by decide) (fun c1 => ?_) (fun c1 => ?_)
  · skip
    refine z_iconst (pc := 15) gX 0 dJ12_canEncode_15 (by decide) ?_
    exact z_rzo gX hQX (by simp only [mIn, bI]; grind) dJ12_canEncode_16
  · skip
    refine z_iload_n (pc := 4) gX 0 dJ12_canEncode_4 rfl rfl ?_
    refine z_sipush (pc := 5) gX 255 dJ12_canEncode_5 (by decide) ?_
    refine z_icmp_gt (pc := 8) gX 15 dJ12_canEncode_8 (by decide) (fun c8 => ?_) (fun c8 => ?_)
    · skip
      refine z_iconst (pc := 15) gX 0 dJ12_canEncode_15 (by decide) ?_
      exact z_rzo gX hQX (by simp only [mIn, bI]; grind) dJ12_canEncode_16
    · skip
      refine z_iconst (pc := 11) gX 1 dJ12_canEncode_11 (by decide) ?_
      refine z_goto (pc := 12) gX 16 dJ12_canEncode_12 (by decide) ?_
      exact z_rzo gX hQX (by simp only [mIn, bI]; grind) dJ12_canEncode_16
theorem hd_J12_canEncode : zHd yJ12_canEncode 1 := by unfold zHd; decide +kernel

set_option maxHeartbeats 4000000 in
theorem met_J12_indexOfChar (l : Launch) (D : va_G) (B0 : Nat) (j : Nat) (hj : j ≤ 255) : Met l yJ12_indexOfChar (ws_ yJ12_indexOfChar cJ12_indexOfChar 6 (some .int)) (zRm 1 0 0) (va_Pc [.ref (zSV D), .int (nI j), .int 0, .int 5] (zPreO B0 D [])) (zQo (S := Unit) (fun _ => True) (fun _ => some (.int (sxI (nI j))))) 0 0 (fun _ => False) := by
  refine z_entryo (by decide +kernel) (Nat.le_of_ble_eq_true rfl) (fun pX eX sX mX argsX blX mtX cX QX hQX gX => ?_)
  refine z_eq (lv₂ := [(0, .ref (zSV D)), (1, .int (nI j)), (2, .int 0), (3, .int 5)]) (st₂ := []) ?_ rfl rfl
  refine z_iload_n (pc := 0) gX 1 dJ12_indexOfChar_0 rfl rfl ?_
  refine z_i2b (pc := 1) gX dJ12_indexOfChar_1 ?_
  refine z_istore (pc := 2) gX [1, 2, 3, 4, 0] [(0, .ref (zSV D)), (1, .int (nI j)), (2, .int 0), (3, .int 5), (4, .int ((nI j).toInt8.toInt32))] dJ12_indexOfChar_2 (by decide) rfl ?_
  refine z_iload_n (pc := 4) gX 2 dJ12_indexOfChar_4 rfl rfl ?_
  refine z_istore (pc := 5) gX [1, 2, 3, 4, 5, 0] [(0, .ref (zSV D)), (1, .int (nI j)), (2, .int 0), (3, .int 5), (4, .int ((nI j).toInt8.toInt32)), (5, .int 0)] dJ12_indexOfChar_5 (by decide) rfl ?_
  refine z_iload (pc := 7) gX 5 dJ12_indexOfChar_7 rfl ?_
  refine z_iload_n (pc := 9) gX 3 dJ12_indexOfChar_9 rfl rfl ?_
  refine z_icmp_ge (pc := 10) gX 31 dJ12_indexOfChar_10 (by decide) (fun c10 => ?_) (fun c10 => ?_)
  · skip
    have k10 : 5 ≤ 0 := (zn_le (a := 5) (b := 0) (by omega) (by omega)).mp c10
    exact absurd c10 (by decide)
  · skip
    have k10 : 0 < 5 := (zn_nle (a := 5) (b := 0) (by omega) (by omega)).mp c10
    refine z_aload_n (pc := 13) gX 0 dJ12_indexOfChar_13 rfl rfl ?_
    refine z_iload (pc := 14) gX 5 dJ12_indexOfChar_14 rfl ?_
    refine z_strB (pc := 16) gX (zIo_ok gX) (i := 0) 0 (by decide) rfl (by decide) dJ12_indexOfChar_16 ?_
    refine z_iload (pc := 17) gX 4 dJ12_indexOfChar_17 rfl ?_
    refine z_icmp_ne (pc := 19) gX 25 dJ12_indexOfChar_19 (by decide) (fun c19 => ?_) (fun c19 => ?_)
    · skip
      have ne0 : ¬ j = 115 := fun e => c19 ((byte_eq j hj 115 (by decide)).mpr e).symm
      refine z_iinc (pc := 25) gX 5 (nI 1) [1, 2, 3, 4, 5, 0] [(0, .ref (zSV D)), (1, .int (nI j)), (2, .int 0), (3, .int 5), (4, .int ((nI j).toInt8.toInt32)), (5, .int (nI 1))] dJ12_indexOfChar_25 rfl (nI_1 _) (by decide) rfl ?_
      refine z_goto (pc := 28) gX 7 dJ12_indexOfChar_28 (by decide) ?_
      refine z_iload (pc := 7) gX 5 dJ12_indexOfChar_7 rfl ?_
      refine z_iload_n (pc := 9) gX 3 dJ12_indexOfChar_9 rfl rfl ?_
      refine z_icmp_ge (pc := 10) gX 31 dJ12_indexOfChar_10 (by decide) (fun c10 => ?_) (fun c10 => ?_)
      · skip
        have k10 : 5 ≤ 1 := (zn_le (a := 5) (b := 1) (by omega) (by omega)).mp c10
        exact absurd c10 (by decide)
      · skip
        have k10 : 1 < 5 := (zn_nle (a := 5) (b := 1) (by omega) (by omega)).mp c10
        refine z_aload_n (pc := 13) gX 0 dJ12_indexOfChar_13 rfl rfl ?_
        refine z_iload (pc := 14) gX 5 dJ12_indexOfChar_14 rfl ?_
        refine z_strB (pc := 16) gX (zIo_ok gX) (i := (nI 1)) 1 (by decide) rfl (by decide) dJ12_indexOfChar_16 ?_
        refine z_iload (pc := 17) gX 4 dJ12_indexOfChar_17 rfl ?_
        refine z_icmp_ne (pc := 19) gX 25 dJ12_indexOfChar_19 (by decide) (fun c19 => ?_) (fun c19 => ?_)
        · skip
          have ne1 : ¬ j = 119 := fun e => c19 ((byte_eq j hj 119 (by decide)).mpr e).symm
          refine z_iinc (pc := 25) gX 5 (nI 2) [1, 2, 3, 4, 5, 0] [(0, .ref (zSV D)), (1, .int (nI j)), (2, .int 0), (3, .int 5), (4, .int ((nI j).toInt8.toInt32)), (5, .int (nI 2))] dJ12_indexOfChar_25 rfl (nI_1 _) (by decide) rfl ?_
          refine z_goto (pc := 28) gX 7 dJ12_indexOfChar_28 (by decide) ?_
          refine z_iload (pc := 7) gX 5 dJ12_indexOfChar_7 rfl ?_
          refine z_iload_n (pc := 9) gX 3 dJ12_indexOfChar_9 rfl rfl ?_
          refine z_icmp_ge (pc := 10) gX 31 dJ12_indexOfChar_10 (by decide) (fun c10 => ?_) (fun c10 => ?_)
          · skip
            have k10 : 5 ≤ 2 := (zn_le (a := 5) (b := 2) (by omega) (by omega)).mp c10
            exact absurd c10 (by decide)
          · skip
            have k10 : 2 < 5 := (zn_nle (a := 5) (b := 2) (by omega) (by omega)).mp c10
            refine z_aload_n (pc := 13) gX 0 dJ12_indexOfChar_13 rfl rfl ?_
            refine z_iload (pc := 14) gX 5 dJ12_indexOfChar_14 rfl ?_
            refine z_strB (pc := 16) gX (zIo_ok gX) (i := (nI 2)) 2 (by decide) rfl (by decide) dJ12_indexOfChar_16 ?_
            refine z_iload (pc := 17) gX 4 dJ12_indexOfChar_17 rfl ?_
            refine z_icmp_ne (pc := 19) gX 25 dJ12_indexOfChar_19 (by decide) (fun c19 => ?_) (fun c19 => ?_)
            · skip
              have ne2 : ¬ j = 114 := fun e => c19 ((byte_eq j hj 114 (by decide)).mpr e).symm
              refine z_iinc (pc := 25) gX 5 (nI 3) [1, 2, 3, 4, 5, 0] [(0, .ref (zSV D)), (1, .int (nI j)), (2, .int 0), (3, .int 5), (4, .int ((nI j).toInt8.toInt32)), (5, .int (nI 3))] dJ12_indexOfChar_25 rfl (nI_1 _) (by decide) rfl ?_
              refine z_goto (pc := 28) gX 7 dJ12_indexOfChar_28 (by decide) ?_
              refine z_iload (pc := 7) gX 5 dJ12_indexOfChar_7 rfl ?_
              refine z_iload_n (pc := 9) gX 3 dJ12_indexOfChar_9 rfl rfl ?_
              refine z_icmp_ge (pc := 10) gX 31 dJ12_indexOfChar_10 (by decide) (fun c10 => ?_) (fun c10 => ?_)
              · skip
                have k10 : 5 ≤ 3 := (zn_le (a := 5) (b := 3) (by omega) (by omega)).mp c10
                exact absurd c10 (by decide)
              · skip
                have k10 : 3 < 5 := (zn_nle (a := 5) (b := 3) (by omega) (by omega)).mp c10
                refine z_aload_n (pc := 13) gX 0 dJ12_indexOfChar_13 rfl rfl ?_
                refine z_iload (pc := 14) gX 5 dJ12_indexOfChar_14 rfl ?_
                refine z_strB (pc := 16) gX (zIo_ok gX) (i := (nI 3)) 3 (by decide) rfl (by decide) dJ12_indexOfChar_16 ?_
                refine z_iload (pc := 17) gX 4 dJ12_indexOfChar_17 rfl ?_
                refine z_icmp_ne (pc := 19) gX 25 dJ12_indexOfChar_19 (by decide) (fun c19 => ?_) (fun c19 => ?_)
                · skip
                  have ne3 : ¬ j = 116 := fun e => c19 ((byte_eq j hj 116 (by decide)).mpr e).symm
                  refine z_iinc (pc := 25) gX 5 (nI 4) [1, 2, 3, 4, 5, 0] [(0, .ref (zSV D)), (1, .int (nI j)), (2, .int 0), (3, .int 5), (4, .int ((nI j).toInt8.toInt32)), (5, .int (nI 4))] dJ12_indexOfChar_25 rfl (nI_1 _) (by decide) rfl ?_
                  refine z_goto (pc := 28) gX 7 dJ12_indexOfChar_28 (by decide) ?_
                  refine z_iload (pc := 7) gX 5 dJ12_indexOfChar_7 rfl ?_
                  refine z_iload_n (pc := 9) gX 3 dJ12_indexOfChar_9 rfl rfl ?_
                  refine z_icmp_ge (pc := 10) gX 31 dJ12_indexOfChar_10 (by decide) (fun c10 => ?_) (fun c10 => ?_)
                  · skip
                    have k10 : 5 ≤ 4 := (zn_le (a := 5) (b := 4) (by omega) (by omega)).mp c10
                    exact absurd c10 (by decide)
                  · skip
                    have k10 : 4 < 5 := (zn_nle (a := 5) (b := 4) (by omega) (by omega)).mp c10
                    refine z_aload_n (pc := 13) gX 0 dJ12_indexOfChar_13 rfl rfl ?_
                    refine z_iload (pc := 14) gX 5 dJ12_indexOfChar_14 rfl ?_
                    refine z_strB (pc := 16) gX (zIo_ok gX) (i := (nI 4)) 4 (by decide) rfl (by decide) dJ12_indexOfChar_16 ?_
                    refine z_iload (pc := 17) gX 4 dJ12_indexOfChar_17 rfl ?_
                    refine z_icmp_ne (pc := 19) gX 25 dJ12_indexOfChar_19 (by decide) (fun c19 => ?_) (fun c19 => ?_)
                    · skip
                      have ne4 : ¬ j = 99 := fun e => c19 ((byte_eq j hj 99 (by decide)).mpr e).symm
                      refine z_iinc (pc := 25) gX 5 (nI 5) [1, 2, 3, 4, 5, 0] [(0, .ref (zSV D)), (1, .int (nI j)), (2, .int 0), (3, .int 5), (4, .int ((nI j).toInt8.toInt32)), (5, .int (nI 5))] dJ12_indexOfChar_25 rfl (nI_1 _) (by decide) rfl ?_
                      refine z_goto (pc := 28) gX 7 dJ12_indexOfChar_28 (by decide) ?_
                      refine z_iload (pc := 7) gX 5 dJ12_indexOfChar_7 rfl ?_
                      refine z_iload_n (pc := 9) gX 3 dJ12_indexOfChar_9 rfl rfl ?_
                      refine z_icmp_ge (pc := 10) gX 31 dJ12_indexOfChar_10 (by decide) (fun c10 => ?_) (fun c10 => ?_)
                      · skip
                        have k10 : 5 ≤ 5 := (zn_le (a := 5) (b := 5) (by omega) (by omega)).mp c10
                        refine z_iconst (pc := 31) gX (-1) dJ12_indexOfChar_31 (by decide) ?_
                        exact z_rio gX hQX (by rw [sx_at j hj, if_neg ne0, if_neg ne1, if_neg ne2, if_neg ne3, if_neg ne4]) dJ12_indexOfChar_32
                      · skip
                        have k10 : 5 < 5 := (zn_nle (a := 5) (b := 5) (by omega) (by omega)).mp c10
                        exact absurd c10 (by decide)
                    · skip
                      have eq4 : j = 99 := (byte_eq j hj 99 (by decide)).mp c19.symm
                      refine z_iload (pc := 22) gX 5 dJ12_indexOfChar_22 rfl ?_
                      exact z_rio gX hQX (by subst eq4; decide) dJ12_indexOfChar_24
                · skip
                  have eq3 : j = 116 := (byte_eq j hj 116 (by decide)).mp c19.symm
                  refine z_iload (pc := 22) gX 5 dJ12_indexOfChar_22 rfl ?_
                  exact z_rio gX hQX (by subst eq3; decide) dJ12_indexOfChar_24
            · skip
              have eq2 : j = 114 := (byte_eq j hj 114 (by decide)).mp c19.symm
              refine z_iload (pc := 22) gX 5 dJ12_indexOfChar_22 rfl ?_
              exact z_rio gX hQX (by subst eq2; decide) dJ12_indexOfChar_24
        · skip
          have eq1 : j = 119 := (byte_eq j hj 119 (by decide)).mp c19.symm
          refine z_iload (pc := 22) gX 5 dJ12_indexOfChar_22 rfl ?_
          exact z_rio gX hQX (by subst eq1; decide) dJ12_indexOfChar_24
    · skip
      have eq0 : j = 115 := (byte_eq j hj 115 (by decide)).mp c19.symm
      refine z_iload (pc := 22) gX 5 dJ12_indexOfChar_22 rfl ?_
      exact z_rio gX hQX (by subst eq0; decide) dJ12_indexOfChar_24
theorem hd_J12_indexOfChar : zHd yJ12_indexOfChar 4 := by unfold zHd; decide +kernel

set_option maxHeartbeats 4000000 in
theorem met_J12_indexOf (l : Launch) (D : va_G) (B0 : Nat) (v : Int32)  : Met l yJ12_indexOf (ws_ yJ12_indexOf cJ12_indexOf 4 (some .int)) (zRm 3 0 0) (va_Pc [.ref (zSV D), .int v, .int 0, .int 5] (zPreO B0 D [])) (zQo (S := Unit) (fun _ => True) (fun _ => some (.int (sxI v)))) 0 0 (fun _ => False) := by
  refine z_entryo (by decide +kernel) (Nat.le_of_ble_eq_true rfl) (fun pX eX sX mX argsX blX mtX cX QX hQX gX => ?_)
  refine z_eq (lv₂ := [(0, .ref (zSV D)), (1, .int v), (2, .int 0), (3, .int 5)]) (st₂ := []) ?_ rfl rfl
  refine z_iload_n (pc := 0) gX 1 dJ12_indexOf_0 rfl rfl ?_
  refine z_cOS (pc := 1) gX (zIo_ok gX) [.int v] [] [] (met_J12_canEncode l D B0 v ) q587 q588 q67 q589 hd_J12_canEncode ⟨rfl, rfl⟩ ⟨(Nat.le_of_ble_eq_true rfl), (Nat.le_of_ble_eq_true rfl)⟩ rfl rfl rfl (Nat.le_of_ble_eq_true rfl) ⟨(Nat.le_of_ble_eq_true rfl), (Nat.le_of_ble_eq_true rfl)⟩ dJ12_indexOf_1 ?_
  intro _ hu1
  refine z_eq (lv₂ := [(0, .ref (zSV D)), (1, .int v), (2, .int 0), (3, .int 5)]) (st₂ := [.int (bI (mIn v 0 255))]) ?_ rfl rfl
  refine z_if_ne (pc := 4) gX 9 dJ12_indexOf_4 (by decide) (fun c4 => ?_) (fun c4 => ?_)
  · skip
    have k4 : (mIn v 0 255) = true := bI_ne0 c4
    obtain ⟨j, hj, rfl⟩ := mIn_nat k4 255 (by decide)
    refine z_iload_n (pc := 9) gX 2 dJ12_indexOf_9 rfl rfl ?_
    refine z_iconst (pc := 10) gX 0 dJ12_indexOf_10 (by decide) ?_
    refine z_mmax (pc := 11) gX ⟨q590, q591, q68, q592⟩ (Nat.le_of_ble_eq_true rfl) (Nat.le_of_ble_eq_true rfl) ⟨by first | decide | (simp only [zRm]; omega), by first | decide | (simp only [zRm]; omega)⟩ dJ12_indexOf_11 ?_
    refine z_top 0 (by decide) ?_
    refine z_istore_n (pc := 14) gX [1, 2, 0, 3] [(0, .ref (zSV D)), (1, .int (nI j)), (2, .int 0), (3, .int 5)] dJ12_indexOf_14 rfl (by decide) rfl ?_
    refine z_iload_n (pc := 15) gX 3 dJ12_indexOf_15 rfl rfl ?_
    refine z_aload_n (pc := 16) gX 0 dJ12_indexOf_16 rfl rfl ?_
    refine z_strL (pc := 17) gX (zIo_ok gX) dJ12_indexOf_17 ?_
    refine z_mmin (pc := 18) gX ⟨q593, q594, q68, q595⟩ (Nat.le_of_ble_eq_true rfl) (Nat.le_of_ble_eq_true rfl) ⟨by first | decide | (simp only [zRm]; omega), by first | decide | (simp only [zRm]; omega)⟩ dJ12_indexOf_18 ?_
    refine z_top 5 (by decide) ?_
    refine z_istore_n (pc := 21) gX [1, 2, 3, 0] [(0, .ref (zSV D)), (1, .int (nI j)), (2, .int 0), (3, .int 5)] dJ12_indexOf_21 rfl (by decide) rfl ?_
    refine z_iload_n (pc := 22) gX 2 dJ12_indexOf_22 rfl rfl ?_
    refine z_iload_n (pc := 23) gX 3 dJ12_indexOf_23 rfl rfl ?_
    refine z_icmp_lt (pc := 24) gX 29 dJ12_indexOf_24 (by decide) (fun c24 => ?_) (fun c24 => ?_)
    · skip
      have k24 : 0 < 5 := (zn_lt (a := 0) (b := 5) (by omega) (by omega)).mp c24
      refine z_aload_n (pc := 29) gX 0 dJ12_indexOf_29 rfl rfl ?_
      refine z_iload_n (pc := 30) gX 1 dJ12_indexOf_30 rfl rfl ?_
      refine z_iload_n (pc := 31) gX 2 dJ12_indexOf_31 rfl rfl ?_
      refine z_iload_n (pc := 32) gX 3 dJ12_indexOf_32 rfl rfl ?_
      refine z_cOS (pc := 33) gX (zIo_ok gX) [.ref (zSV D), .int (nI j), .int 0, .int 5] [] [] (met_J12_indexOfChar l D B0 j hj) q596 q597 q67 q598 hd_J12_indexOfChar ⟨rfl, rfl⟩ ⟨(Nat.le_of_ble_eq_true rfl), (Nat.le_of_ble_eq_true rfl)⟩ rfl rfl rfl (Nat.le_of_ble_eq_true rfl) ⟨(Nat.le_of_ble_eq_true rfl), (Nat.le_of_ble_eq_true rfl)⟩ dJ12_indexOf_33 ?_
      intro _ hu33
      refine z_eq (lv₂ := [(0, .ref (zSV D)), (1, .int (nI j)), (2, .int 0), (3, .int 5)]) (st₂ := [.int (sxI (nI j))]) ?_ rfl rfl
      exact z_rio gX hQX rfl dJ12_indexOf_36
    · skip
      have k24 : 5 ≤ 0 := (zn_nlt (a := 0) (b := 5) (by omega) (by omega)).mp c24
      exact absurd c24 (by decide)
  · skip
    have k4 : (mIn v 0 255) = false := bI_eq0 c4
    refine z_iconst (pc := 7) gX (-1) dJ12_indexOf_7 (by decide) ?_
    exact z_rio gX hQX ((sx_no k4).symm) dJ12_indexOf_8
theorem hd_J12_indexOf : zHd yJ12_indexOf 4 := by unfold zHd; decide +kernel

set_option maxHeartbeats 4000000 in
theorem met_J7_indexOf_2 (l : Launch) (D : va_G) (B0 : Nat) (v : Int32)  : Met l yJ7_indexOf_2 (ws_ yJ7_indexOf_2 cJ7_indexOf_2 3 (some .int)) (zRm 4 0 0) (va_Pc [.ref (zSK D), .int v, .int 0] (zPreO B0 D [])) (zQo (S := Unit) (fun _ => True) (fun _ => some (.int (sxI v)))) 0 0 (fun _ => False) := by
  refine z_entryo (by decide +kernel) (Nat.le_of_ble_eq_true rfl) (fun pX eX sX mX argsX blX mtX cX QX hQX gX => ?_)
  refine z_eq (lv₂ := [(0, .ref (zSK D)), (1, .int v), (2, .int 0)]) (st₂ := []) ?_ rfl rfl
  refine z_aload_n (pc := 0) gX 0 dJ7_indexOf_2_0 rfl rfl ?_
  refine z_cOR (pc := 1) gX (zIo_ok gX) [] [] [] (met_J7_isLatin1 l D B0  ) q570 q571 q572 q59 q573 (fun H locs hI => z_strR gX (zIo_ok gX) hI) rfl hd_J7_isLatin1 ⟨rfl, rfl⟩ ⟨(Nat.le_of_ble_eq_true rfl), (Nat.le_of_ble_eq_true rfl)⟩ rfl rfl rfl (Nat.le_of_ble_eq_true rfl) ⟨(Nat.le_of_ble_eq_true rfl), (Nat.le_of_ble_eq_true rfl)⟩ dJ7_indexOf_2_1 ?_
  intro _ hu1
  refine z_eq (lv₂ := [(0, .ref (zSK D)), (1, .int v), (2, .int 0)]) (st₂ := [.int (bI true)]) ?_ rfl rfl
  refine z_if_eq (pc := 4) gX 23 dJ7_indexOf_2_4 (by decide) (fun c4 => ?_) (fun c4 => ?_)
  · skip
    have k4 : true = false := bI_eq0 c4
    exact absurd k4 (by decide)
  · skip
    have k4 : true = true := bI_ne0 c4
    refine z_aload_n (pc := 7) gX 0 dJ7_indexOf_2_7 rfl rfl ?_
    refine z_strV (pc := 8) gX (zIo_ok gX) q1756 dJ7_indexOf_2_8 ?_
    refine z_iload_n (pc := 11) gX 1 dJ7_indexOf_2_11 rfl rfl ?_
    refine z_iload_n (pc := 12) gX 2 dJ7_indexOf_2_12 rfl rfl ?_
    refine z_aload_n (pc := 13) gX 0 dJ7_indexOf_2_13 rfl rfl ?_
    refine z_cOR (pc := 14) gX (zIo_ok gX) [] [.int 0, .int v, .ref (zSV D)] [] (met_J7_length l D B0  ) q576 q577 q578 q59 q579 (fun H locs hI => z_strR gX (zIo_ok gX) hI) rfl hd_J7_length ⟨rfl, rfl⟩ ⟨(Nat.le_of_ble_eq_true rfl), (Nat.le_of_ble_eq_true rfl)⟩ rfl rfl rfl (Nat.le_of_ble_eq_true rfl) ⟨(Nat.le_of_ble_eq_true rfl), (Nat.le_of_ble_eq_true rfl)⟩ dJ7_indexOf_2_14 ?_
    intro _ hu14
    refine z_eq (lv₂ := [(0, .ref (zSK D)), (1, .int v), (2, .int 0)]) (st₂ := [.int 5, .int 0, .int v, .ref (zSV D)]) ?_ rfl rfl
    refine z_cOS (pc := 17) gX (zIo_ok gX) [.ref (zSV D), .int v, .int 0, .int 5] [] [] (met_J12_indexOf l D B0 v ) q584 q585 q67 q586 hd_J12_indexOf ⟨rfl, rfl⟩ ⟨(Nat.le_of_ble_eq_true rfl), (Nat.le_of_ble_eq_true rfl)⟩ rfl rfl rfl (Nat.le_of_ble_eq_true rfl) ⟨(Nat.le_of_ble_eq_true rfl), (Nat.le_of_ble_eq_true rfl)⟩ dJ7_indexOf_2_17 ?_
    intro _ hu17
    refine z_eq (lv₂ := [(0, .ref (zSK D)), (1, .int v), (2, .int 0)]) (st₂ := [.int (sxI v)]) ?_ rfl rfl
    refine z_goto (pc := 20) gX 36 dJ7_indexOf_2_20 (by decide) ?_
    exact z_rio gX hQX rfl dJ7_indexOf_2_36
theorem hd_J7_indexOf_2 : zHd yJ7_indexOf_2 2 := by unfold zHd; decide +kernel

set_option maxHeartbeats 4000000 in
theorem met_J7_indexOf (l : Launch) (D : va_G) (B0 : Nat) (v : Int32)  : Met l yJ7_indexOf (ws_ yJ7_indexOf cJ7_indexOf 2 (some .int)) (zRm 5 0 0) (va_Pc [.ref (zSK D), .int v] (zPreO B0 D [])) (zQo (S := Unit) (fun _ => True) (fun _ => some (.int (sxI v)))) 0 0 (fun _ => False) := by
  refine z_entryo (by decide +kernel) (Nat.le_of_ble_eq_true rfl) (fun pX eX sX mX argsX blX mtX cX QX hQX gX => ?_)
  refine z_eq (lv₂ := [(0, .ref (zSK D)), (1, .int v)]) (st₂ := []) ?_ rfl rfl
  refine z_aload_n (pc := 0) gX 0 dJ7_indexOf_0 rfl rfl ?_
  refine z_iload_n (pc := 1) gX 1 dJ7_indexOf_1 rfl rfl ?_
  refine z_iconst (pc := 2) gX 0 dJ7_indexOf_2 (by decide) ?_
  refine z_cOR (pc := 3) gX (zIo_ok gX) [.int v, .int 0] [] [] (met_J7_indexOf_2 l D B0 v ) q566 q567 q568 q59 q569 (fun H locs hI => z_strR gX (zIo_ok gX) hI) rfl hd_J7_indexOf_2 ⟨rfl, rfl⟩ ⟨(Nat.le_of_ble_eq_true rfl), (Nat.le_of_ble_eq_true rfl)⟩ rfl rfl rfl (Nat.le_of_ble_eq_true rfl) ⟨(Nat.le_of_ble_eq_true rfl), (Nat.le_of_ble_eq_true rfl)⟩ dJ7_indexOf_3 ?_
  intro _ hu3
  refine z_eq (lv₂ := [(0, .ref (zSK D)), (1, .int v)]) (st₂ := [.int (sxI v)]) ?_ rfl rfl
  exact z_rio gX hQX rfl dJ7_indexOf_6
theorem hd_J7_indexOf : zHd yJ7_indexOf 1 := by unfold zHd; decide +kernel

set_option maxHeartbeats 4000000 in
theorem met_X5_isRider (l : Launch) (D : va_G) (B0 : Nat) (q : Nat) (tx : Nat) (t : Nat) (p : Nat) (tk : Int32) (fr : Nat) (vl : Int32) (ma : Nat) (bt : Nat → Int32) (tp : Nat → Int32)  : Met l yX5_isRider (ws_ yX5_isRider cX5_isRider 1 (some .boolean)) (zRm 6 0 0) (va_Pc [.ref q] (zPreO B0 D [[(q, .inr (5, [.ref tx, .int (nI t), .int (nI p), .int tk, .int (nI fr), .int vl, .ref ma]))]])) (zQo (S := Unit) (fun _ => True) (fun _ => some (.int (bI (decide (tk = 1) && decide (0 ≤ sxI vl)))))) 0 0 (fun _ => False) := by
  refine z_entryo (by decide +kernel) (Nat.le_of_ble_eq_true rfl) (fun pX eX sX mX argsX blX mtX cX QX hQX gX => ?_)
  refine z_eq (lv₂ := [(0, .ref q)]) (st₂ := []) ?_ rfl rfl
  refine z_aload_n (pc := 0) gX 0 dX5_isRider_0 rfl rfl ?_
  refine z_get (pc := 1) gX (zIo_ok gX) (zm 0 rfl) (ci := 5) (C := RX5) (T := TX5) (N := 7) rfl in_X5 3 (by decide) q475 (fun _ h => h) (v := .int tk) rfl dX5_isRider_1 ?_
  refine z_iconst (pc := 4) gX 1 dX5_isRider_4 (by decide) ?_
  refine z_icmp_ne (pc := 5) gX 24 dX5_isRider_5 (by decide) (fun c5 => ?_) (fun c5 => ?_)
  · skip
    refine z_iconst (pc := 24) gX 0 dX5_isRider_24 (by decide) ?_
    exact z_rzo gX hQX (by simp only [bI]; grind) dX5_isRider_25
  · skip
    refine z_ldcS (pc := 8) gX gX.zk.str dX5_isRider_8 ?_
    refine z_aload_n (pc := 10) gX 0 dX5_isRider_10 rfl rfl ?_
    refine z_get (pc := 11) gX (zIo_ok gX) (zm 0 rfl) (ci := 5) (C := RX5) (T := TX5) (N := 7) rfl in_X5 5 (by decide) q477 (fun _ h => h) (v := .int vl) rfl dX5_isRider_11 ?_
    refine z_cOR (pc := 14) gX (zIo_ok gX) [.int vl] [] [] (met_J7_indexOf l D B0 vl ) q562 q563 q564 q59 q565 (fun H locs hI => z_strR gX (zIo_ok gX) hI) rfl hd_J7_indexOf ⟨rfl, rfl⟩ ⟨(Nat.le_of_ble_eq_true rfl), (Nat.le_of_ble_eq_true rfl)⟩ rfl rfl rfl (Nat.le_of_ble_eq_true rfl) ⟨(Nat.le_of_ble_eq_true rfl), (Nat.le_of_ble_eq_true rfl)⟩ dX5_isRider_14 ?_
    intro _ hu14
    refine z_eq (lv₂ := [(0, .ref q)]) (st₂ := [.int (sxI vl)]) ?_ rfl rfl
    refine z_if_lt (pc := 17) gX 24 dX5_isRider_17 (by decide) (fun c17 => ?_) (fun c17 => ?_)
    · skip
      refine z_iconst (pc := 24) gX 0 dX5_isRider_24 (by decide) ?_
      exact z_rzo gX hQX (by simp only [bI]; grind) dX5_isRider_25
    · skip
      refine z_iconst (pc := 20) gX 1 dX5_isRider_20 (by decide) ?_
      refine z_goto (pc := 21) gX 25 dX5_isRider_21 (by decide) ?_
      exact z_rzo gX hQX (by simp only [bI]; grind) dX5_isRider_25
theorem hd_X5_isRider : zHd yX5_isRider 0 := by unfold zHd; decide +kernel

