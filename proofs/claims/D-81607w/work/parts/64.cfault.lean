set_option maxRecDepth 100000
/-! FAULTS: made, thrown; figure, sign -/
section ZF
variable {p : Program} {l : Launch} {e : Env} {R : Room} {s : State} {m : MethodId} {args : Array Value} {below : List Frame} {meth : Method} {c : Code} {Q : State → Prop} {nL : Nat} {D : va_G} {A : Nat → Prop} {cells slots : Nat} {cc : ByteArray} {own : String} {ret : Option FieldType} {B0 : Nat} {pc : Nat} {lv lv' : List (Nat × Value)} {st : List Value} {ws ws' wc wr : List va_W} {I : Heap → List Loc → Prop}
theorem z_gsZ (g : zG p s m args meth c cc nL own ret D B0) (o : zOK B0 D s ws I) {C n d' : String} {v : Value} {index : Nat} (hZ : va_Z C n d' v (fun q => B0 ≤ q) s s.heap) (q : Cond.fieldLink own index C n d' ∈ lw_all) (d : decode cc pc = .ok (.getstatic index, 3)) (k : (zJ p l e R s m args below meth c Q nL (I) (cells) (slots) (pc + 3) (lv) (v :: st))) : (zJ p l e R s m args below meth c Q nL (I) (cells) (slots) (pc) (lv) (st)) := fun H locs ls hI hl => va_gets g.1 g.2.1 hZ (o.S hI g) g.ow (g.ts _ q) (fun x h => h) d (k H locs ls hI hl)
theorem z_athrow (g : zG p s m args meth c cc nL own ret D B0) (o : zOK B0 D s ws I) {b ci : Nat} {fs : List Value} {r : vw_C} (hm : (b, .inr (ci, fs)) ∈ ws.flatten) (hc : vwCl[ci]? = some r) (d : decode cc pc = .ok (.athrow, 1)) (k : (zX p l e R s m args below meth c Q nL (I) (cells) (slots) (pc) lv r.1 (fun q_ => q_ = b))) : (zJ p l e R s m args below meth c Q nL (I) (cells) (slots) (pc) (lv) (.ref b :: st)) := by
  intro H locs ls hI hl
  obtain ⟨q0, he⟩ := List.getElem?_of_mem hm
  obtain ⟨q', h1, cell, g1, g2, g3, -⟩ := (o H locs hI).1 q0 _ he
  exact vx_athrow g.1 g.2.1 d (k H locs ls b cell st rfl hI hl g1 g3 (by rw [g2]; exact (g.K.1 ci r hc).2.1))
end ZF

set_option maxHeartbeats 4000000 in
theorem met_J3_init_3 (l : Launch) (D : va_G) (B0 : Nat) (A : Nat → Prop) (z : Nat)  : Met l yJ3_init_3 (ws_ yJ3_init_3 cJ3_init_3 5 none) (zRm 3 0 0) (va_Pc [.ref z, .null, .null, .int 0, .int 0] (zPre B0 D A [[(z, .inr (6, [.null, .null, .null, .null, .null, .int 0, .int 0, .int 0]))]])) (zQ (S := Unit) (fun _ => True) (fun _ => none) (fun _ => [[(z, .inr (6, [.null, .null, .null, .null, .null, .int 0, .int 0, .int 0]))]]) D A) 0 0 A := by
  refine z_entry (by decide +kernel) (Nat.le_of_ble_eq_true rfl) (fun pX eX sX mX argsX blX mtX cX QX hQX gX hAX hnm => ?_)
  refine z_eq (lv₂ := [(0, .ref z), (1, .null), (2, .null), (3, .int 0), (4, .int 0)]) (st₂ := []) ?_ rfl rfl
  refine z_aload_n (pc := 0) gX 0 dJ3_init_3_0 rfl rfl ?_
  refine z_objInit (pc := 1) gX q269 q_oi2 q_oi3 dJ3_init_3_1 (Nat.le_of_ble_eq_true rfl) (Nat.le_of_ble_eq_true rfl) ?_
  refine z_aload_n (pc := 4) gX 0 dJ3_init_3_4 rfl rfl ?_
  refine z_aload_n (pc := 5) gX 0 dJ3_init_3_5 rfl rfl ?_
  refine z_put (pc := 6) gX hAX 0 rfl (ci := 6) (C := RX6) (T := TX6) (N := 8) rfl in_X6 tyX6 tyX6_ok nmX6 0 (by decide) q304 (fun _ h => h) rfl (v := .ref z) rfl rfl (Nat.le_of_ble_eq_true rfl) [[(z, .inr (6, [.ref z, .null, .null, .null, .null, .int 0, .int 0, .int 0]))]] rfl dJ3_init_3_6 ?_
  refine z_aload_n (pc := 9) gX 0 dJ3_init_3_9 rfl rfl ?_
  rcases gX.zk.us.1 with hZ | ⟨u10, hZ⟩
  · refine z_gsZ (pc := 10) gX (zI_ok gX hAX) hZ q270 dJ3_init_3_10 ?_
    refine z_put (pc := 13) gX hAX 0 rfl (ci := 6) (C := RX6) (T := TX6) (N := 8) rfl in_X6 tyX6 tyX6_ok nmX6 1 (by decide) q305 (fun _ h => h) rfl (v := .null) rfl rfl (Nat.le_of_ble_eq_true rfl) [[(z, .inr (6, [.ref z, .null, .null, .null, .null, .int 0, .int 0, .int 0]))]] rfl dJ3_init_3_13 ?_
    refine z_aload_n (pc := 16) gX 0 dJ3_init_3_16 rfl rfl ?_
    rcases gX.zk.ss.1 with hZ | ⟨u17, hZ⟩
    · refine z_gsZ (pc := 17) gX (zI_ok gX hAX) hZ q272 dJ3_init_3_17 ?_
      refine z_put (pc := 20) gX hAX 0 rfl (ci := 6) (C := RX6) (T := TX6) (N := 8) rfl in_X6 tyX6 tyX6_ok nmX6 2 (by decide) q306 (fun _ h => h) rfl (v := .null) rfl rfl (Nat.le_of_ble_eq_true rfl) [[(z, .inr (6, [.ref z, .null, .null, .null, .null, .int 0, .int 0, .int 0]))]] rfl dJ3_init_3_20 ?_
      refine z_iload (pc := 23) gX 4 dJ3_init_3_23 rfl ?_
      refine z_if_eq (pc := 25) gX 36 dJ3_init_3_25 (by decide) (fun c25 => ?_) (fun c25 => ?_)
      · skip
        refine z_aload_n (pc := 36) gX 0 dJ3_init_3_36 rfl rfl ?_
        refine z_aconst_null (pc := 37) gX dJ3_init_3_37 ?_
        refine z_put (pc := 38) gX hAX 0 rfl (ci := 6) (C := RX6) (T := TX6) (N := 8) rfl in_X6 tyX6 tyX6_ok nmX6 1 (by decide) q305 (fun _ h => h) rfl (v := .null) rfl rfl (Nat.le_of_ble_eq_true rfl) [[(z, .inr (6, [.ref z, .null, .null, .null, .null, .int 0, .int 0, .int 0]))]] rfl dJ3_init_3_38 ?_
        refine z_aload_n (pc := 41) gX 0 dJ3_init_3_41 rfl rfl ?_
        refine z_aloadN_n (pc := 42) gX 1 dJ3_init_3_42 rfl rfl ?_
        refine z_put (pc := 43) gX hAX 0 rfl (ci := 6) (C := RX6) (T := TX6) (N := 8) rfl in_X6 tyX6 tyX6_ok nmX6 3 (by decide) q303 (fun _ h => h) rfl (v := .null) rfl rfl (Nat.le_of_ble_eq_true rfl) [[(z, .inr (6, [.ref z, .null, .null, .null, .null, .int 0, .int 0, .int 0]))]] rfl dJ3_init_3_43 ?_
        refine z_aload_n (pc := 46) gX 0 dJ3_init_3_46 rfl rfl ?_
        refine z_aloadN_n (pc := 47) gX 2 dJ3_init_3_47 rfl rfl ?_
        refine z_put (pc := 48) gX hAX 0 rfl (ci := 6) (C := RX6) (T := TX6) (N := 8) rfl in_X6 tyX6 tyX6_ok nmX6 0 (by decide) q304 (fun _ h => h) rfl (v := .null) rfl rfl (Nat.le_of_ble_eq_true rfl) [[(z, .inr (6, [.null, .null, .null, .null, .null, .int 0, .int 0, .int 0]))]] rfl dJ3_init_3_48 ?_
        refine z_iload_n (pc := 51) gX 3 dJ3_init_3_51 rfl rfl ?_
        refine z_if_ne (pc := 52) gX 60 dJ3_init_3_52 (by decide) (fun c52 => ?_) (fun c52 => ?_)
        · skip
          exact absurd c52 (by decide)
        · skip
          refine z_aload_n (pc := 55) gX 0 dJ3_init_3_55 rfl rfl ?_
          refine z_aconst_null (pc := 56) gX dJ3_init_3_56 ?_
          refine z_put (pc := 57) gX hAX 0 rfl (ci := 6) (C := RX6) (T := TX6) (N := 8) rfl in_X6 tyX6 tyX6_ok nmX6 2 (by decide) q306 (fun _ h => h) rfl (v := .null) rfl rfl (Nat.le_of_ble_eq_true rfl) [[(z, .inr (6, [.null, .null, .null, .null, .null, .int 0, .int 0, .int 0]))]] rfl dJ3_init_3_57 ?_
          exact z_vret gX hQX () trivial rfl rfl (by first | decide | omega) (by first | decide | omega) dJ3_init_3_60
      · skip
        exact absurd c25 (by decide)
    · refine z_gsZ (pc := 17) gX (zI_ok gX hAX) hZ q272 dJ3_init_3_17 ?_
      refine z_put (pc := 20) gX hAX 0 rfl (ci := 6) (C := RX6) (T := TX6) (N := 8) rfl in_X6 tyX6 tyX6_ok nmX6 2 (by decide) q306 (fun _ h => h) rfl (v := .ref u17) rfl rfl (Nat.le_of_ble_eq_true rfl) [[(z, .inr (6, [.ref z, .null, .ref u17, .null, .null, .int 0, .int 0, .int 0]))]] rfl dJ3_init_3_20 ?_
      refine z_iload (pc := 23) gX 4 dJ3_init_3_23 rfl ?_
      refine z_if_eq (pc := 25) gX 36 dJ3_init_3_25 (by decide) (fun c25 => ?_) (fun c25 => ?_)
      · skip
        refine z_aload_n (pc := 36) gX 0 dJ3_init_3_36 rfl rfl ?_
        refine z_aconst_null (pc := 37) gX dJ3_init_3_37 ?_
        refine z_put (pc := 38) gX hAX 0 rfl (ci := 6) (C := RX6) (T := TX6) (N := 8) rfl in_X6 tyX6 tyX6_ok nmX6 1 (by decide) q305 (fun _ h => h) rfl (v := .null) rfl rfl (Nat.le_of_ble_eq_true rfl) [[(z, .inr (6, [.ref z, .null, .ref u17, .null, .null, .int 0, .int 0, .int 0]))]] rfl dJ3_init_3_38 ?_
        refine z_aload_n (pc := 41) gX 0 dJ3_init_3_41 rfl rfl ?_
        refine z_aloadN_n (pc := 42) gX 1 dJ3_init_3_42 rfl rfl ?_
        refine z_put (pc := 43) gX hAX 0 rfl (ci := 6) (C := RX6) (T := TX6) (N := 8) rfl in_X6 tyX6 tyX6_ok nmX6 3 (by decide) q303 (fun _ h => h) rfl (v := .null) rfl rfl (Nat.le_of_ble_eq_true rfl) [[(z, .inr (6, [.ref z, .null, .ref u17, .null, .null, .int 0, .int 0, .int 0]))]] rfl dJ3_init_3_43 ?_
        refine z_aload_n (pc := 46) gX 0 dJ3_init_3_46 rfl rfl ?_
        refine z_aloadN_n (pc := 47) gX 2 dJ3_init_3_47 rfl rfl ?_
        refine z_put (pc := 48) gX hAX 0 rfl (ci := 6) (C := RX6) (T := TX6) (N := 8) rfl in_X6 tyX6 tyX6_ok nmX6 0 (by decide) q304 (fun _ h => h) rfl (v := .null) rfl rfl (Nat.le_of_ble_eq_true rfl) [[(z, .inr (6, [.null, .null, .ref u17, .null, .null, .int 0, .int 0, .int 0]))]] rfl dJ3_init_3_48 ?_
        refine z_iload_n (pc := 51) gX 3 dJ3_init_3_51 rfl rfl ?_
        refine z_if_ne (pc := 52) gX 60 dJ3_init_3_52 (by decide) (fun c52 => ?_) (fun c52 => ?_)
        · skip
          exact absurd c52 (by decide)
        · skip
          refine z_aload_n (pc := 55) gX 0 dJ3_init_3_55 rfl rfl ?_
          refine z_aconst_null (pc := 56) gX dJ3_init_3_56 ?_
          refine z_put (pc := 57) gX hAX 0 rfl (ci := 6) (C := RX6) (T := TX6) (N := 8) rfl in_X6 tyX6 tyX6_ok nmX6 2 (by decide) q306 (fun _ h => h) rfl (v := .null) rfl rfl (Nat.le_of_ble_eq_true rfl) [[(z, .inr (6, [.null, .null, .null, .null, .null, .int 0, .int 0, .int 0]))]] rfl dJ3_init_3_57 ?_
          exact z_vret gX hQX () trivial rfl rfl (by first | decide | omega) (by first | decide | omega) dJ3_init_3_60
      · skip
        exact absurd c25 (by decide)
  · refine z_gsZ (pc := 10) gX (zI_ok gX hAX) hZ q270 dJ3_init_3_10 ?_
    refine z_put (pc := 13) gX hAX 0 rfl (ci := 6) (C := RX6) (T := TX6) (N := 8) rfl in_X6 tyX6 tyX6_ok nmX6 1 (by decide) q305 (fun _ h => h) rfl (v := .ref u10) rfl rfl (Nat.le_of_ble_eq_true rfl) [[(z, .inr (6, [.ref z, .ref u10, .null, .null, .null, .int 0, .int 0, .int 0]))]] rfl dJ3_init_3_13 ?_
    refine z_aload_n (pc := 16) gX 0 dJ3_init_3_16 rfl rfl ?_
    rcases gX.zk.ss.1 with hZ | ⟨u17, hZ⟩
    · refine z_gsZ (pc := 17) gX (zI_ok gX hAX) hZ q272 dJ3_init_3_17 ?_
      refine z_put (pc := 20) gX hAX 0 rfl (ci := 6) (C := RX6) (T := TX6) (N := 8) rfl in_X6 tyX6 tyX6_ok nmX6 2 (by decide) q306 (fun _ h => h) rfl (v := .null) rfl rfl (Nat.le_of_ble_eq_true rfl) [[(z, .inr (6, [.ref z, .ref u10, .null, .null, .null, .int 0, .int 0, .int 0]))]] rfl dJ3_init_3_20 ?_
      refine z_iload (pc := 23) gX 4 dJ3_init_3_23 rfl ?_
      refine z_if_eq (pc := 25) gX 36 dJ3_init_3_25 (by decide) (fun c25 => ?_) (fun c25 => ?_)
      · skip
        refine z_aload_n (pc := 36) gX 0 dJ3_init_3_36 rfl rfl ?_
        refine z_aconst_null (pc := 37) gX dJ3_init_3_37 ?_
        refine z_put (pc := 38) gX hAX 0 rfl (ci := 6) (C := RX6) (T := TX6) (N := 8) rfl in_X6 tyX6 tyX6_ok nmX6 1 (by decide) q305 (fun _ h => h) rfl (v := .null) rfl rfl (Nat.le_of_ble_eq_true rfl) [[(z, .inr (6, [.ref z, .null, .null, .null, .null, .int 0, .int 0, .int 0]))]] rfl dJ3_init_3_38 ?_
        refine z_aload_n (pc := 41) gX 0 dJ3_init_3_41 rfl rfl ?_
        refine z_aloadN_n (pc := 42) gX 1 dJ3_init_3_42 rfl rfl ?_
        refine z_put (pc := 43) gX hAX 0 rfl (ci := 6) (C := RX6) (T := TX6) (N := 8) rfl in_X6 tyX6 tyX6_ok nmX6 3 (by decide) q303 (fun _ h => h) rfl (v := .null) rfl rfl (Nat.le_of_ble_eq_true rfl) [[(z, .inr (6, [.ref z, .null, .null, .null, .null, .int 0, .int 0, .int 0]))]] rfl dJ3_init_3_43 ?_
        refine z_aload_n (pc := 46) gX 0 dJ3_init_3_46 rfl rfl ?_
        refine z_aloadN_n (pc := 47) gX 2 dJ3_init_3_47 rfl rfl ?_
        refine z_put (pc := 48) gX hAX 0 rfl (ci := 6) (C := RX6) (T := TX6) (N := 8) rfl in_X6 tyX6 tyX6_ok nmX6 0 (by decide) q304 (fun _ h => h) rfl (v := .null) rfl rfl (Nat.le_of_ble_eq_true rfl) [[(z, .inr (6, [.null, .null, .null, .null, .null, .int 0, .int 0, .int 0]))]] rfl dJ3_init_3_48 ?_
        refine z_iload_n (pc := 51) gX 3 dJ3_init_3_51 rfl rfl ?_
        refine z_if_ne (pc := 52) gX 60 dJ3_init_3_52 (by decide) (fun c52 => ?_) (fun c52 => ?_)
        · skip
          exact absurd c52 (by decide)
        · skip
          refine z_aload_n (pc := 55) gX 0 dJ3_init_3_55 rfl rfl ?_
          refine z_aconst_null (pc := 56) gX dJ3_init_3_56 ?_
          refine z_put (pc := 57) gX hAX 0 rfl (ci := 6) (C := RX6) (T := TX6) (N := 8) rfl in_X6 tyX6 tyX6_ok nmX6 2 (by decide) q306 (fun _ h => h) rfl (v := .null) rfl rfl (Nat.le_of_ble_eq_true rfl) [[(z, .inr (6, [.null, .null, .null, .null, .null, .int 0, .int 0, .int 0]))]] rfl dJ3_init_3_57 ?_
          exact z_vret gX hQX () trivial rfl rfl (by first | decide | omega) (by first | decide | omega) dJ3_init_3_60
      · skip
        exact absurd c25 (by decide)
    · refine z_gsZ (pc := 17) gX (zI_ok gX hAX) hZ q272 dJ3_init_3_17 ?_
      refine z_put (pc := 20) gX hAX 0 rfl (ci := 6) (C := RX6) (T := TX6) (N := 8) rfl in_X6 tyX6 tyX6_ok nmX6 2 (by decide) q306 (fun _ h => h) rfl (v := .ref u17) rfl rfl (Nat.le_of_ble_eq_true rfl) [[(z, .inr (6, [.ref z, .ref u10, .ref u17, .null, .null, .int 0, .int 0, .int 0]))]] rfl dJ3_init_3_20 ?_
      refine z_iload (pc := 23) gX 4 dJ3_init_3_23 rfl ?_
      refine z_if_eq (pc := 25) gX 36 dJ3_init_3_25 (by decide) (fun c25 => ?_) (fun c25 => ?_)
      · skip
        refine z_aload_n (pc := 36) gX 0 dJ3_init_3_36 rfl rfl ?_
        refine z_aconst_null (pc := 37) gX dJ3_init_3_37 ?_
        refine z_put (pc := 38) gX hAX 0 rfl (ci := 6) (C := RX6) (T := TX6) (N := 8) rfl in_X6 tyX6 tyX6_ok nmX6 1 (by decide) q305 (fun _ h => h) rfl (v := .null) rfl rfl (Nat.le_of_ble_eq_true rfl) [[(z, .inr (6, [.ref z, .null, .ref u17, .null, .null, .int 0, .int 0, .int 0]))]] rfl dJ3_init_3_38 ?_
        refine z_aload_n (pc := 41) gX 0 dJ3_init_3_41 rfl rfl ?_
        refine z_aloadN_n (pc := 42) gX 1 dJ3_init_3_42 rfl rfl ?_
        refine z_put (pc := 43) gX hAX 0 rfl (ci := 6) (C := RX6) (T := TX6) (N := 8) rfl in_X6 tyX6 tyX6_ok nmX6 3 (by decide) q303 (fun _ h => h) rfl (v := .null) rfl rfl (Nat.le_of_ble_eq_true rfl) [[(z, .inr (6, [.ref z, .null, .ref u17, .null, .null, .int 0, .int 0, .int 0]))]] rfl dJ3_init_3_43 ?_
        refine z_aload_n (pc := 46) gX 0 dJ3_init_3_46 rfl rfl ?_
        refine z_aloadN_n (pc := 47) gX 2 dJ3_init_3_47 rfl rfl ?_
        refine z_put (pc := 48) gX hAX 0 rfl (ci := 6) (C := RX6) (T := TX6) (N := 8) rfl in_X6 tyX6 tyX6_ok nmX6 0 (by decide) q304 (fun _ h => h) rfl (v := .null) rfl rfl (Nat.le_of_ble_eq_true rfl) [[(z, .inr (6, [.null, .null, .ref u17, .null, .null, .int 0, .int 0, .int 0]))]] rfl dJ3_init_3_48 ?_
        refine z_iload_n (pc := 51) gX 3 dJ3_init_3_51 rfl rfl ?_
        refine z_if_ne (pc := 52) gX 60 dJ3_init_3_52 (by decide) (fun c52 => ?_) (fun c52 => ?_)
        · skip
          exact absurd c52 (by decide)
        · skip
          refine z_aload_n (pc := 55) gX 0 dJ3_init_3_55 rfl rfl ?_
          refine z_aconst_null (pc := 56) gX dJ3_init_3_56 ?_
          refine z_put (pc := 57) gX hAX 0 rfl (ci := 6) (C := RX6) (T := TX6) (N := 8) rfl in_X6 tyX6 tyX6_ok nmX6 2 (by decide) q306 (fun _ h => h) rfl (v := .null) rfl rfl (Nat.le_of_ble_eq_true rfl) [[(z, .inr (6, [.null, .null, .null, .null, .null, .int 0, .int 0, .int 0]))]] rfl dJ3_init_3_57 ?_
          exact z_vret gX hQX () trivial rfl rfl (by first | decide | omega) (by first | decide | omega) dJ3_init_3_60
      · skip
        exact absurd c25 (by decide)
theorem hd_J3_init_3 : zHd yJ3_init_3 4 := by unfold zHd; decide +kernel

set_option maxHeartbeats 4000000 in
theorem met_J4_init_3 (l : Launch) (D : va_G) (B0 : Nat) (A : Nat → Prop) (z : Nat)  : Met l yJ4_init_3 (ws_ yJ4_init_3 cJ4_init_3 5 none) (zRm 4 0 0) (va_Pc [.ref z, .null, .null, .int 0, .int 0] (zPre B0 D A [[(z, .inr (6, [.null, .null, .null, .null, .null, .int 0, .int 0, .int 0]))]])) (zQ (S := Unit) (fun _ => True) (fun _ => none) (fun _ => [[(z, .inr (6, [.null, .null, .null, .null, .null, .int 0, .int 0, .int 0]))]]) D A) 0 0 A := by
  refine z_entry (by decide +kernel) (Nat.le_of_ble_eq_true rfl) (fun pX eX sX mX argsX blX mtX cX QX hQX gX hAX hnm => ?_)
  refine z_eq (lv₂ := [(0, .ref z), (1, .null), (2, .null), (3, .int 0), (4, .int 0)]) (st₂ := []) ?_ rfl rfl
  refine z_aload_n (pc := 0) gX 0 dJ4_init_3_0 rfl rfl ?_
  refine z_aloadN_n (pc := 1) gX 1 dJ4_init_3_1 rfl rfl ?_
  refine z_aloadN_n (pc := 2) gX 2 dJ4_init_3_2 rfl rfl ?_
  refine z_iload_n (pc := 3) gX 3 dJ4_init_3_3 rfl rfl ?_
  refine z_iload (pc := 4) gX 4 dJ4_init_3_4 rfl ?_
  refine z_cMI (pc := 6) gX hAX [.null, .null, .int 0, .int 0] [] [0] [] (fun A1 => met_J3_init_3 l D B0 A1 z ) q536 q537 q55 q538 rfl hd_J3_init_3 ⟨rfl, rfl⟩ ⟨(Nat.le_of_ble_eq_true rfl), (Nat.le_of_ble_eq_true rfl)⟩ rfl rfl rfl rfl rfl (Nat.le_of_ble_eq_true rfl) ⟨(Nat.le_of_ble_eq_true rfl), (Nat.le_of_ble_eq_true rfl)⟩ dJ4_init_3_6 ?_
  intro _ hu6
  refine z_re [0] [[(z, .inr (6, [.null, .null, .null, .null, .null, .int 0, .int 0, .int 0]))]] rfl rfl ?_
  refine z_eq (lv₂ := [(0, .ref z), (1, .null), (2, .null), (3, .int 0), (4, .int 0)]) (st₂ := []) ?_ rfl rfl
  exact z_vret gX hQX () trivial rfl rfl (by first | decide | omega) (by first | decide | omega) dJ4_init_3_9
theorem hd_J4_init_3 : zHd yJ4_init_3 4 := by unfold zHd; decide +kernel

set_option maxHeartbeats 4000000 in
theorem met_X6_init (l : Launch) (D : va_G) (B0 : Nat) (A : Nat → Prop) (z : Nat) (k : Int32) (fr : Nat)  : Met l yX6_init (ws_ yX6_init cX6_init 3 none) (zRm 5 0 0) (va_Pc [.ref z, .int k, .int (nI fr)] (zPre B0 D A [[(z, .inr (6, [.null, .null, .null, .null, .null, .int 0, .int 0, .int 0]))]])) (zQ (S := Unit) (fun _ => True) (fun _ => none) (fun _ => [[(z, .inr (6, [.null, .null, .null, .null, .null, .int 0, .int k, .int (nI fr)]))]]) D A) 0 0 A := by
  refine z_entry (by decide +kernel) (Nat.le_of_ble_eq_true rfl) (fun pX eX sX mX argsX blX mtX cX QX hQX gX hAX hnm => ?_)
  refine z_eq (lv₂ := [(0, .ref z), (1, .int k), (2, .int (nI fr))]) (st₂ := []) ?_ rfl rfl
  refine z_aload_n (pc := 0) gX 0 dX6_init_0 rfl rfl ?_
  refine z_aconst_null (pc := 1) gX dX6_init_1 ?_
  refine z_aconst_null (pc := 2) gX dX6_init_2 ?_
  refine z_iconst (pc := 3) gX 0 dX6_init_3 (by decide) ?_
  refine z_iconst (pc := 4) gX 0 dX6_init_4 (by decide) ?_
  refine z_cMI (pc := 5) gX hAX [.null, .null, .int 0, .int 0] [] [0] [] (fun A1 => met_J4_init_3 l D B0 A1 z ) q533 q534 q56 q535 rfl hd_J4_init_3 ⟨rfl, rfl⟩ ⟨(Nat.le_of_ble_eq_true rfl), (Nat.le_of_ble_eq_true rfl)⟩ rfl rfl rfl rfl rfl (Nat.le_of_ble_eq_true rfl) ⟨(Nat.le_of_ble_eq_true rfl), (Nat.le_of_ble_eq_true rfl)⟩ dX6_init_5 ?_
  intro _ hu5
  refine z_re [0] [[(z, .inr (6, [.null, .null, .null, .null, .null, .int 0, .int 0, .int 0]))]] rfl rfl ?_
  refine z_eq (lv₂ := [(0, .ref z), (1, .int k), (2, .int (nI fr))]) (st₂ := []) ?_ rfl rfl
  refine z_aload_n (pc := 8) gX 0 dX6_init_8 rfl rfl ?_
  refine z_iload_n (pc := 9) gX 1 dX6_init_9 rfl rfl ?_
  refine z_putF (pc := 10) gX hAX hnm 0 rfl (ci := 6) (C := RX6) (T := TX6) (N := 8) rfl in_X6 tyX6 tyX6_ok nmX6 6 (by decide) q539 (fun _ h => h) rfl rfl (v := .int k) rfl rfl (Nat.le_of_ble_eq_true rfl) [[(z, .inr (6, [.null, .null, .null, .null, .null, .int 0, .int k, .int 0]))]] rfl dX6_init_10 ?_
  refine z_aload_n (pc := 13) gX 0 dX6_init_13 rfl rfl ?_
  refine z_iload_n (pc := 14) gX 2 dX6_init_14 rfl rfl ?_
  refine z_putF (pc := 15) gX hAX hnm 0 rfl (ci := 6) (C := RX6) (T := TX6) (N := 8) rfl in_X6 tyX6 tyX6_ok nmX6 7 (by decide) q541 (fun _ h => h) rfl rfl (v := .int (nI fr)) rfl rfl (Nat.le_of_ble_eq_true rfl) [[(z, .inr (6, [.null, .null, .null, .null, .null, .int 0, .int k, .int (nI fr)]))]] rfl dX6_init_15 ?_
  exact z_vret gX hQX () trivial rfl rfl (by first | decide | omega) (by first | decide | omega) dX6_init_18
theorem hd_X6_init : zHd yX6_init 2 := by unfold zHd; decide +kernel

set_option maxHeartbeats 4000000 in
theorem met_X5_must (l : Launch) (D : va_G) (B0 : Nat) (q : Nat) (b : Int32) (kk : Int32) (hb0 : ¬ b = 0) : Met l yX5_must (ws_ yX5_must cX5_must 3 none) (zRm 1 0 0) (va_Pc [.ref q, .int b, .int kk] (zPreO B0 D [])) (zQo (S := Unit) (fun _ => True) (fun _ => none)) 0 0 (fun _ => False) := by
  refine z_entryo (by decide +kernel) (Nat.le_of_ble_eq_true rfl) (fun pX eX sX mX argsX blX mtX cX QX hQX gX => ?_)
  refine z_eq (lv₂ := [(0, .ref q), (1, .int b), (2, .int kk)]) (st₂ := []) ?_ rfl rfl
  refine z_iload_n (pc := 0) gX 1 dX5_must_0 rfl rfl ?_
  refine z_if_ne (pc := 1) gX 17 dX5_must_1 (by decide) (fun c1 => ?_) (fun c1 => ?_)
  · skip
    exact z_vreto gX hQX () trivial rfl dX5_must_17
  · skip
    exact absurd c1 hb0
theorem hd_X5_must : zHd yX5_must 2 := by unfold zHd; decide +kernel

set_option maxHeartbeats 4000000 in
theorem met_X5_mustX (l : Launch) (D : va_G) (B0 : Nat) (A : Nat → Prop) (q : Nat) (tx : Nat) (t : Nat) (p : Nat) (tk : Int32) (fr : Nat) (vl : Int32) (ma : Nat) (bt : Nat → Int32) (tp : Nat → Int32) (b : Int32) (kk : Int32) (hb0 : b = 0) : vz_Met l yX5_must (ws_ yX5_must cX5_must 3 none) (zRm 7 1 8) (va_Pc [.ref q, .int b, .int kk] (zPre B0 D A [[(q, .inr (5, [.ref tx, .int (nI t), .int (nI p), .int tk, .int (nI fr), .int vl, .ref ma]))]])) (zQ (S := Unit) (fun _ => False) (fun _ => none) (fun _ => []) D A) (zXC (S := Nat) (fun q_ E_ => fun u => (fun (z : Nat) => E_ = "StepRiders$Fault" ∧ q_ = z) u) (fun u => (fun (z : Nat) => [[(q, .inr (5, [.ref tx, .int (nI t), .int (nI p), .int tk, .int (nI fr), .int vl, .ref ma]))], [(z, .inr (6, [.null, .null, .null, .null, .null, .int 0, .int kk, .int (nI fr)]))]]) u) D A) 1 8 A := by
  refine z_xentry (by decide +kernel) (Nat.le_of_ble_eq_true rfl) (fun pX eX sX mX argsX blX mtX cX QX hQX gX hAX hnm htX => ?_)
  refine z_eq (lv₂ := [(0, .ref q), (1, .int b), (2, .int kk)]) (st₂ := []) ?_ rfl rfl
  refine z_iload_n (pc := 0) gX 1 dX5_must_0 rfl rfl ?_
  refine z_if_ne (pc := 1) gX 17 dX5_must_1 (by decide) (fun c1 => ?_) (fun c1 => ?_)
  · skip
    exact absurd hb0 c1
  · skip
    refine z_new (pc := 4) gX hAX (ci := 6) (C := RX6) (T := TX6) (N := 8) rfl in_X6 tyX6 tyX6_ok q521 q522 q66 [.null, .null, .null, .null, .null, .int 0, .int 0, .int 0] (by decide +kernel) (by first | decide | (simp only [zRm]; omega)) (by first | decide | (simp only [zRm]; omega)) dX5_must_4 (fun q4 => ?_)
    refine z_norm [[(q, .inr (5, [.ref tx, .int (nI t), .int (nI p), .int tk, .int (nI fr), .int vl, .ref ma]))], [(q4, .inr (6, [.null, .null, .null, .null, .null, .int 0, .int 0, .int 0]))]] 1 8 ?_ rfl rfl rfl
    refine z_dup (pc := 7) gX dX5_must_7 rfl ?_
    refine z_iload_n (pc := 8) gX 2 dX5_must_8 rfl rfl ?_
    refine z_aload_n (pc := 9) gX 0 dX5_must_9 rfl rfl ?_
    refine z_get (pc := 10) gX (zI_ok gX hAX) (zm 0 rfl) (ci := 5) (C := RX5) (T := TX5) (N := 7) rfl in_X5 4 (by decide) q476 (fun _ h => h) (v := .int (nI fr)) rfl dX5_must_10 ?_
    refine z_cMI (pc := 13) gX hAX [.int kk, .int (nI fr)] [.ref q4] [1] [0] (fun A1 => met_X6_init l D B0 A1 q4 kk fr ) q530 q531 q66 q532 rfl hd_X6_init ⟨rfl, rfl⟩ ⟨(Nat.le_of_ble_eq_true rfl), (Nat.le_of_ble_eq_true rfl)⟩ rfl rfl rfl rfl rfl (Nat.le_of_ble_eq_true rfl) ⟨(Nat.le_of_ble_eq_true rfl), (Nat.le_of_ble_eq_true rfl)⟩ dX5_must_13 ?_
    intro _ hu13
    refine z_re [1, 0] [[(q, .inr (5, [.ref tx, .int (nI t), .int (nI p), .int tk, .int (nI fr), .int vl, .ref ma]))], [(q4, .inr (6, [.null, .null, .null, .null, .null, .int 0, .int kk, .int (nI fr)]))]] rfl rfl ?_
    refine z_eq (lv₂ := [(0, .ref q), (1, .int b), (2, .int kk)]) (st₂ := [.ref q4]) ?_ rfl rfl
    refine z_athrow (pc := 16) gX (zI_ok gX hAX) (zm 1 rfl) (ci := 6) rfl dX5_must_16 ?_
    exact z_xout gX hQX (htX _) (fun _ => q4) (fun _ h => ⟨rfl, h⟩) (fun _ => rfl) (by first | decide | omega) (by first | decide | omega)

set_option maxHeartbeats 4000000 in
theorem met_X5_figure (l : Launch) (D : va_G) (B0 : Nat) (A : Nat → Prop) (q : Nat) (tx : Nat) (t : Nat) (p : Nat) (tk : Int32) (fr : Nat) (vl : Int32) (ma : Nat) (bt : Nat → Int32) (tp : Nat → Int32) (lo : Int32) (hi : Int32) (ht90 : t ≤ 90) (hp90 : p ≤ 90) (hb : ∀ i, i < t → bt i &&& 255 = tp i) (hr : ∀ i, i < t → mIn (tp i) 0 255 = true) (h2 : tk = 2) (hin : mIn vl lo hi = true) : Met l yX5_figure (ws_ yX5_figure cX5_figure 4 (some .int)) (zRm 6 0 0) (va_Pc [.ref q, .int lo, .int hi] (zPre B0 D A [[(q, .inr (5, [.ref tx, .int (nI t), .int (nI p), .int tk, .int (nI fr), .int vl, .ref ma]))], [(tx, .inl (D.1 101, 90, .inl bt))]])) (zQ (S := Unit) (fun _ => True) (fun _ => some (.int vl)) (fun _ => [[(q, .inr (5, [.ref tx, .int (nI t), .int (nI (nxP tp t p)), .int (nxT tp t p), .int (nI p), .int (nxV tp t p), .ref ma]))], [(tx, .inl (D.1 101, 90, .inl bt))]]) D A) 0 0 A := by
  refine z_entry (by decide +kernel) (Nat.le_of_ble_eq_true rfl) (fun pX eX sX mX argsX blX mtX cX QX hQX gX hAX hnm => ?_)
  refine z_eq (lv₂ := [(0, .ref q), (1, .int lo), (2, .int hi)]) (st₂ := []) ?_ rfl rfl
  refine z_aload_n (pc := 0) gX 0 dX5_figure_0 rfl rfl ?_
  refine z_aload_n (pc := 1) gX 0 dX5_figure_1 rfl rfl ?_
  refine z_get (pc := 2) gX (zI_ok gX hAX) (zm 0 rfl) (ci := 5) (C := RX5) (T := TX5) (N := 7) rfl in_X5 3 (by decide) q475 (fun _ h => h) (v := .int tk) rfl dX5_figure_2 ?_
  refine z_iconst (pc := 5) gX 2 dX5_figure_5 (by decide) ?_
  refine z_icmp_ne (pc := 6) gX 13 dX5_figure_6 (by decide) (fun c6 => ?_) (fun c6 => ?_)
  · skip
    exact absurd h2 c6
  · skip
    refine z_iconst (pc := 9) gX 1 dX5_figure_9 (by decide) ?_
    refine z_goto (pc := 10) gX 14 dX5_figure_10 (by decide) ?_
    refine z_iconst (pc := 14) gX 1 dX5_figure_14 (by decide) ?_
    refine z_cOV (pc := 15) gX (zI_ok gX hAX) [.int 1, .int 1] [] [] (met_X5_must l D B0 q 1 1 (by decide)) q517 q519 qs10 q65 q520 (zm 0 rfl) (ci := 5) rfl rfl hd_X5_must ⟨rfl, rfl⟩ ⟨(Nat.le_of_ble_eq_true rfl), (Nat.le_of_ble_eq_true rfl)⟩ rfl rfl rfl (Nat.le_of_ble_eq_true rfl) ⟨(Nat.le_of_ble_eq_true rfl), (Nat.le_of_ble_eq_true rfl)⟩ dX5_figure_15 ?_
    intro _ hu15
    refine z_eq (lv₂ := [(0, .ref q), (1, .int lo), (2, .int hi)]) (st₂ := []) ?_ rfl rfl
    refine z_aload_n (pc := 18) gX 0 dX5_figure_18 rfl rfl ?_
    refine z_aload_n (pc := 19) gX 0 dX5_figure_19 rfl rfl ?_
    refine z_get (pc := 20) gX (zI_ok gX hAX) (zm 0 rfl) (ci := 5) (C := RX5) (T := TX5) (N := 7) rfl in_X5 5 (by decide) q477 (fun _ h => h) (v := .int vl) rfl dX5_figure_20 ?_
    refine z_i2l (pc := 23) gX dX5_figure_23 ?_
    refine z_iload_n (pc := 24) gX 1 dX5_figure_24 rfl rfl ?_
    refine z_i2l (pc := 25) gX dX5_figure_25 ?_
    refine z_iload_n (pc := 26) gX 2 dX5_figure_26 rfl rfl ?_
    refine z_i2l (pc := 27) gX dX5_figure_27 ?_
    refine z_cOSN2 (pc := 28) gX (zI_ok gX hAX) [.long vl.toInt64, .long lo.toInt64, .long hi.toInt64] [.ref q] [] (met_X0_isIn l D B0 vl.toInt64 lo.toInt64 hi.toInt64 ) (zm 11 rfl) q347 q47 hd_X0_isIn q348 ⟨rfl, rfl⟩ ⟨(Nat.le_of_ble_eq_true rfl), (Nat.le_of_ble_eq_true rfl)⟩ rfl rfl rfl (Nat.le_of_ble_eq_true rfl) ⟨(Nat.le_of_ble_eq_true rfl), (Nat.le_of_ble_eq_true rfl)⟩ dX5_figure_28 ?_
    intro _ hu28
    refine z_eq (lv₂ := [(0, .ref q), (1, .int lo), (2, .int hi)]) (st₂ := [.int (bI (lIn vl.toInt64 lo.toInt64 hi.toInt64)), .ref q]) ?_ rfl rfl
    refine z_top (bI (mIn vl lo hi)) (congrArg bI (lIn_eq rfl rfl rfl)) ?_
    refine z_iconst (pc := 31) gX 2 dX5_figure_31 (by decide) ?_
    refine z_cOV (pc := 32) gX (zI_ok gX hAX) [.int (bI (mIn vl lo hi)), .int 2] [] [] (met_X5_must l D B0 q (bI (mIn vl lo hi)) 2 (by rw [hin]; decide)) q517 q519 qs10 q65 q520 (zm 0 rfl) (ci := 5) rfl rfl hd_X5_must ⟨rfl, rfl⟩ ⟨(Nat.le_of_ble_eq_true rfl), (Nat.le_of_ble_eq_true rfl)⟩ rfl rfl rfl (Nat.le_of_ble_eq_true rfl) ⟨(Nat.le_of_ble_eq_true rfl), (Nat.le_of_ble_eq_true rfl)⟩ dX5_figure_32 ?_
    intro _ hu32
    refine z_eq (lv₂ := [(0, .ref q), (1, .int lo), (2, .int hi)]) (st₂ := []) ?_ rfl rfl
    refine z_aload_n (pc := 35) gX 0 dX5_figure_35 rfl rfl ?_
    refine z_get (pc := 36) gX (zI_ok gX hAX) (zm 0 rfl) (ci := 5) (C := RX5) (T := TX5) (N := 7) rfl in_X5 5 (by decide) q477 (fun _ h => h) (v := .int vl) rfl dX5_figure_36 ?_
    refine z_istore_n (pc := 39) gX [1, 2, 3, 0] [(0, .ref q), (1, .int lo), (2, .int hi), (3, .int vl)] dX5_figure_39 rfl (by decide) rfl ?_
    refine z_aload_n (pc := 40) gX 0 dX5_figure_40 rfl rfl ?_
    refine z_cMV (pc := 41) gX hAX [] [] [0, 1] [] (fun A1 => met_X5_next l D B0 A1 q tx t p tk fr vl ma bt tp (by first | assumption | omega) (by first | assumption | omega) (by first | assumption | omega) (by first | assumption | omega)) q499 q501 qs7 q65 q502 (zm 0 rfl) (ci := 5) rfl rfl hd_X5_next ⟨rfl, rfl⟩ ⟨(Nat.le_of_ble_eq_true rfl), (Nat.le_of_ble_eq_true rfl)⟩ rfl rfl rfl rfl rfl (Nat.le_of_ble_eq_true rfl) ⟨(Nat.le_of_ble_eq_true rfl), (Nat.le_of_ble_eq_true rfl)⟩ dX5_figure_41 ?_
    intro _ hu41
    refine z_re [0, 1] [[(q, .inr (5, [.ref tx, .int (nI t), .int (nI (nxP tp t p)), .int (nxT tp t p), .int (nI p), .int (nxV tp t p), .ref ma]))], [(tx, .inl (D.1 101, 90, .inl bt))]] rfl rfl ?_
    refine z_eq (lv₂ := [(0, .ref q), (1, .int lo), (2, .int hi), (3, .int vl)]) (st₂ := []) ?_ rfl rfl
    refine z_iload_n (pc := 44) gX 3 dX5_figure_44 rfl rfl ?_
    exact z_rim gX hQX () trivial (zsv rfl) rfl (by first | decide | omega) (by first | decide | omega) dX5_figure_45
theorem hd_X5_figure : zHd yX5_figure 2 := by unfold zHd; decide +kernel

set_option maxHeartbeats 4000000 in
theorem met_X5_figureX (l : Launch) (D : va_G) (B0 : Nat) (A : Nat → Prop) (q : Nat) (tx : Nat) (t : Nat) (p : Nat) (tk : Int32) (fr : Nat) (vl : Int32) (ma : Nat) (bt : Nat → Int32) (tp : Nat → Int32) (lo : Int32) (hi : Int32) (kk : Int32) (hbad : (¬ tk = 2 ∧ kk = 1) ∨ (tk = 2 ∧ mIn vl lo hi = false ∧ kk = 2)) : vz_Met l yX5_figure (ws_ yX5_figure cX5_figure 4 (some .int)) (zRm 9 1 8) (va_Pc [.ref q, .int lo, .int hi] (zPre B0 D A [[(q, .inr (5, [.ref tx, .int (nI t), .int (nI p), .int tk, .int (nI fr), .int vl, .ref ma]))], [(tx, .inl (D.1 101, 90, .inl bt))]])) (zQ (S := Unit) (fun _ => False) (fun _ => none) (fun _ => []) D A) (zXC (S := Nat) (fun q_ E_ => fun u => (fun (z : Nat) => E_ = "StepRiders$Fault" ∧ q_ = z) u) (fun u => (fun (z : Nat) => [[(q, .inr (5, [.ref tx, .int (nI t), .int (nI p), .int tk, .int (nI fr), .int vl, .ref ma]))], [(tx, .inl (D.1 101, 90, .inl bt))], [(z, .inr (6, [.null, .null, .null, .null, .null, .int 0, .int kk, .int (nI fr)]))]]) u) D A) 1 8 A := by
  refine z_xentry (by decide +kernel) (Nat.le_of_ble_eq_true rfl) (fun pX eX sX mX argsX blX mtX cX QX hQX gX hAX hnm htX => ?_)
  refine z_eq (lv₂ := [(0, .ref q), (1, .int lo), (2, .int hi)]) (st₂ := []) ?_ rfl rfl
  rcases hbad with ⟨h2, rfl⟩ | ⟨h2, hin, rfl⟩
  · skip
    refine z_aload_n (pc := 0) gX 0 dX5_figure_0 rfl rfl ?_
    refine z_aload_n (pc := 1) gX 0 dX5_figure_1 rfl rfl ?_
    refine z_get (pc := 2) gX (zI_ok gX hAX) (zm 0 rfl) (ci := 5) (C := RX5) (T := TX5) (N := 7) rfl in_X5 3 (by decide) q475 (fun _ h => h) (v := .int tk) rfl dX5_figure_2 ?_
    refine z_iconst (pc := 5) gX 2 dX5_figure_5 (by decide) ?_
    refine z_icmp_ne (pc := 6) gX 13 dX5_figure_6 (by decide) (fun c6 => ?_) (fun c6 => ?_)
    · skip
      refine z_iconst (pc := 13) gX 0 dX5_figure_13 (by decide) ?_
      refine z_iconst (pc := 14) gX 1 dX5_figure_14 (by decide) ?_
      refine z_xV (pc := 15) gX hAX [.int 0, .int 1] [] [0] [1] (fun A1 => met_X5_mustX l D B0 A1 q tx t p tk fr vl ma bt tp 0 1 rfl) q517 q519 qs10 q65 q520 (zm 0 rfl) (ci := 5) rfl rfl hd_X5_must ⟨rfl, rfl⟩ ⟨(Nat.le_of_ble_eq_true rfl), (Nat.le_of_ble_eq_true rfl)⟩ rfl rfl rfl rfl rfl (Nat.le_of_ble_eq_true rfl) ⟨(Nat.le_of_ble_eq_true rfl), (Nat.le_of_ble_eq_true rfl)⟩ dX5_figure_15 (fun E_15 u_15 => ?_) (fun _ hF => hF.elim)
      obtain ⟨z_15, rfl⟩ : ∃ z, z = u_15 := ⟨_, rfl⟩
      refine z_xpx (E0 := "StepRiders$Fault") (PX1 := fun q_ => q_ = z_15) (fun _ h => h) ?_
      refine z_xper [0, 2, 1] [[(q, .inr (5, [.ref tx, .int (nI t), .int (nI p), .int tk, .int (nI fr), .int vl, .ref ma]))], [(tx, .inl (D.1 101, 90, .inl bt))], [(z_15, .inr (6, [.null, .null, .null, .null, .null, .int 0, .int 1, .int (nI fr)]))]] rfl rfl ?_
      exact z_xout gX hQX (htX _) (fun _ => z_15) (fun _ h => ⟨rfl, h⟩) (fun _ => rfl) (by first | decide | omega) (by first | decide | omega)
    · skip
      exact absurd c6 h2
  · skip
    refine z_aload_n (pc := 0) gX 0 dX5_figure_0 rfl rfl ?_
    refine z_aload_n (pc := 1) gX 0 dX5_figure_1 rfl rfl ?_
    refine z_get (pc := 2) gX (zI_ok gX hAX) (zm 0 rfl) (ci := 5) (C := RX5) (T := TX5) (N := 7) rfl in_X5 3 (by decide) q475 (fun _ h => h) (v := .int tk) rfl dX5_figure_2 ?_
    refine z_iconst (pc := 5) gX 2 dX5_figure_5 (by decide) ?_
    refine z_icmp_ne (pc := 6) gX 13 dX5_figure_6 (by decide) (fun c6 => ?_) (fun c6 => ?_)
    · skip
      exact absurd h2 c6
    · skip
      refine z_iconst (pc := 9) gX 1 dX5_figure_9 (by decide) ?_
      refine z_goto (pc := 10) gX 14 dX5_figure_10 (by decide) ?_
      refine z_iconst (pc := 14) gX 1 dX5_figure_14 (by decide) ?_
      refine z_cOV (pc := 15) gX (zI_ok gX hAX) [.int 1, .int 1] [] [] (met_X5_must l D B0 q 1 1 (by decide)) q517 q519 qs10 q65 q520 (zm 0 rfl) (ci := 5) rfl rfl hd_X5_must ⟨rfl, rfl⟩ ⟨(Nat.le_of_ble_eq_true rfl), (Nat.le_of_ble_eq_true rfl)⟩ rfl rfl rfl (Nat.le_of_ble_eq_true rfl) ⟨(Nat.le_of_ble_eq_true rfl), (Nat.le_of_ble_eq_true rfl)⟩ dX5_figure_15 ?_
      intro _ hu15
      refine z_eq (lv₂ := [(0, .ref q), (1, .int lo), (2, .int hi)]) (st₂ := []) ?_ rfl rfl
      refine z_aload_n (pc := 18) gX 0 dX5_figure_18 rfl rfl ?_
      refine z_aload_n (pc := 19) gX 0 dX5_figure_19 rfl rfl ?_
      refine z_get (pc := 20) gX (zI_ok gX hAX) (zm 0 rfl) (ci := 5) (C := RX5) (T := TX5) (N := 7) rfl in_X5 5 (by decide) q477 (fun _ h => h) (v := .int vl) rfl dX5_figure_20 ?_
      refine z_i2l (pc := 23) gX dX5_figure_23 ?_
      refine z_iload_n (pc := 24) gX 1 dX5_figure_24 rfl rfl ?_
      refine z_i2l (pc := 25) gX dX5_figure_25 ?_
      refine z_iload_n (pc := 26) gX 2 dX5_figure_26 rfl rfl ?_
      refine z_i2l (pc := 27) gX dX5_figure_27 ?_
      refine z_cOSN2 (pc := 28) gX (zI_ok gX hAX) [.long vl.toInt64, .long lo.toInt64, .long hi.toInt64] [.ref q] [] (met_X0_isIn l D B0 vl.toInt64 lo.toInt64 hi.toInt64 ) (zm 11 rfl) q347 q47 hd_X0_isIn q348 ⟨rfl, rfl⟩ ⟨(Nat.le_of_ble_eq_true rfl), (Nat.le_of_ble_eq_true rfl)⟩ rfl rfl rfl (Nat.le_of_ble_eq_true rfl) ⟨(Nat.le_of_ble_eq_true rfl), (Nat.le_of_ble_eq_true rfl)⟩ dX5_figure_28 ?_
      intro _ hu28
      refine z_eq (lv₂ := [(0, .ref q), (1, .int lo), (2, .int hi)]) (st₂ := [.int (bI (lIn vl.toInt64 lo.toInt64 hi.toInt64)), .ref q]) ?_ rfl rfl
      refine z_top (bI (mIn vl lo hi)) (congrArg bI (lIn_eq rfl rfl rfl)) ?_
      refine z_iconst (pc := 31) gX 2 dX5_figure_31 (by decide) ?_
      refine z_xV (pc := 32) gX hAX [.int (bI (mIn vl lo hi)), .int 2] [] [0] [1] (fun A1 => met_X5_mustX l D B0 A1 q tx t p tk fr vl ma bt tp (bI (mIn vl lo hi)) 2 (by rw [hin]; rfl)) q517 q519 qs10 q65 q520 (zm 0 rfl) (ci := 5) rfl rfl hd_X5_must ⟨rfl, rfl⟩ ⟨(Nat.le_of_ble_eq_true rfl), (Nat.le_of_ble_eq_true rfl)⟩ rfl rfl rfl rfl rfl (Nat.le_of_ble_eq_true rfl) ⟨(Nat.le_of_ble_eq_true rfl), (Nat.le_of_ble_eq_true rfl)⟩ dX5_figure_32 (fun E_32 u_32 => ?_) (fun _ hF => hF.elim)
      obtain ⟨z_32, rfl⟩ : ∃ z, z = u_32 := ⟨_, rfl⟩
      refine z_xpx (E0 := "StepRiders$Fault") (PX1 := fun q_ => q_ = z_32) (fun _ h => h) ?_
      refine z_xper [0, 2, 1] [[(q, .inr (5, [.ref tx, .int (nI t), .int (nI p), .int tk, .int (nI fr), .int vl, .ref ma]))], [(tx, .inl (D.1 101, 90, .inl bt))], [(z_32, .inr (6, [.null, .null, .null, .null, .null, .int 0, .int 2, .int (nI fr)]))]] rfl rfl ?_
      exact z_xout gX hQX (htX _) (fun _ => z_32) (fun _ h => ⟨rfl, h⟩) (fun _ => rfl) (by first | decide | omega) (by first | decide | omega)

set_option maxHeartbeats 4000000 in
theorem met_X5_sign (l : Launch) (D : va_G) (B0 : Nat) (A : Nat → Prop) (q : Nat) (tx : Nat) (t : Nat) (p : Nat) (tk : Int32) (fr : Nat) (vl : Int32) (ma : Nat) (bt : Nat → Int32) (tp : Nat → Int32) (v : Int32) (ht90 : t ≤ 90) (hp90 : p ≤ 90) (hb : ∀ i, i < t → bt i &&& 255 = tp i) (hr : ∀ i, i < t → mIn (tp i) 0 255 = true) (h3 : tk = 3) (hv : vl = v) : Met l yX5_sign (ws_ yX5_sign cX5_sign 2 none) (zRm 6 0 0) (va_Pc [.ref q, .int v] (zPre B0 D A [[(q, .inr (5, [.ref tx, .int (nI t), .int (nI p), .int tk, .int (nI fr), .int vl, .ref ma]))], [(tx, .inl (D.1 101, 90, .inl bt))]])) (zQ (S := Unit) (fun _ => True) (fun _ => none) (fun _ => [[(q, .inr (5, [.ref tx, .int (nI t), .int (nI (nxP tp t p)), .int (nxT tp t p), .int (nI p), .int (nxV tp t p), .ref ma]))], [(tx, .inl (D.1 101, 90, .inl bt))]]) D A) 0 0 A := by
  refine z_entry (by decide +kernel) (Nat.le_of_ble_eq_true rfl) (fun pX eX sX mX argsX blX mtX cX QX hQX gX hAX hnm => ?_)
  refine z_eq (lv₂ := [(0, .ref q), (1, .int v)]) (st₂ := []) ?_ rfl rfl
  refine z_aload_n (pc := 0) gX 0 dX5_sign_0 rfl rfl ?_
  refine z_aload_n (pc := 1) gX 0 dX5_sign_1 rfl rfl ?_
  refine z_iconst (pc := 2) gX 3 dX5_sign_2 (by decide) ?_
  refine z_iload_n (pc := 3) gX 1 dX5_sign_3 rfl rfl ?_
  refine z_cOV (pc := 4) gX (zI_ok gX hAX) [.int 3, .int v] [.ref q] [0] (met_X5_is l D B0 q tx t p tk fr vl ma bt tp 3 v ) q513 q515 qs9 q65 q516 (zm 0 rfl) (ci := 5) rfl rfl hd_X5_is ⟨rfl, rfl⟩ ⟨(Nat.le_of_ble_eq_true rfl), (Nat.le_of_ble_eq_true rfl)⟩ rfl rfl rfl (Nat.le_of_ble_eq_true rfl) ⟨(Nat.le_of_ble_eq_true rfl), (Nat.le_of_ble_eq_true rfl)⟩ dX5_sign_4 ?_
  intro _ hu4
  refine z_eq (lv₂ := [(0, .ref q), (1, .int v)]) (st₂ := [.int (bI (decide (tk = 3) && decide (vl = v))), .ref q]) ?_ rfl rfl
  refine z_iconst (pc := 7) gX 1 dX5_sign_7 (by decide) ?_
  refine z_cOV (pc := 8) gX (zI_ok gX hAX) [.int (bI (decide (tk = 3) && decide (vl = v))), .int 1] [] [] (met_X5_must l D B0 q (bI (decide (tk = 3) && decide (vl = v))) 1 (by rw [h3, hv]; simp [bI])) q517 q519 qs10 q65 q520 (zm 0 rfl) (ci := 5) rfl rfl hd_X5_must ⟨rfl, rfl⟩ ⟨(Nat.le_of_ble_eq_true rfl), (Nat.le_of_ble_eq_true rfl)⟩ rfl rfl rfl (Nat.le_of_ble_eq_true rfl) ⟨(Nat.le_of_ble_eq_true rfl), (Nat.le_of_ble_eq_true rfl)⟩ dX5_sign_8 ?_
  intro _ hu8
  refine z_eq (lv₂ := [(0, .ref q), (1, .int v)]) (st₂ := []) ?_ rfl rfl
  refine z_aload_n (pc := 11) gX 0 dX5_sign_11 rfl rfl ?_
  refine z_cMV (pc := 12) gX hAX [] [] [0, 1] [] (fun A1 => met_X5_next l D B0 A1 q tx t p tk fr vl ma bt tp (by first | assumption | omega) (by first | assumption | omega) (by first | assumption | omega) (by first | assumption | omega)) q499 q501 qs7 q65 q502 (zm 0 rfl) (ci := 5) rfl rfl hd_X5_next ⟨rfl, rfl⟩ ⟨(Nat.le_of_ble_eq_true rfl), (Nat.le_of_ble_eq_true rfl)⟩ rfl rfl rfl rfl rfl (Nat.le_of_ble_eq_true rfl) ⟨(Nat.le_of_ble_eq_true rfl), (Nat.le_of_ble_eq_true rfl)⟩ dX5_sign_12 ?_
  intro _ hu12
  refine z_re [0, 1] [[(q, .inr (5, [.ref tx, .int (nI t), .int (nI (nxP tp t p)), .int (nxT tp t p), .int (nI p), .int (nxV tp t p), .ref ma]))], [(tx, .inl (D.1 101, 90, .inl bt))]] rfl rfl ?_
  refine z_eq (lv₂ := [(0, .ref q), (1, .int v)]) (st₂ := []) ?_ rfl rfl
  exact z_vret gX hQX () trivial rfl rfl (by first | decide | omega) (by first | decide | omega) dX5_sign_15
theorem hd_X5_sign : zHd yX5_sign 1 := by unfold zHd; decide +kernel

set_option maxHeartbeats 4000000 in
theorem met_X5_signX (l : Launch) (D : va_G) (B0 : Nat) (A : Nat → Prop) (q : Nat) (tx : Nat) (t : Nat) (p : Nat) (tk : Int32) (fr : Nat) (vl : Int32) (ma : Nat) (bt : Nat → Int32) (tp : Nat → Int32) (v : Int32) (kk : Int32) (hbad : ¬ (tk = 3 ∧ vl = v)) (hkk : kk = 1) : vz_Met l yX5_sign (ws_ yX5_sign cX5_sign 2 none) (zRm 9 1 8) (va_Pc [.ref q, .int v] (zPre B0 D A [[(q, .inr (5, [.ref tx, .int (nI t), .int (nI p), .int tk, .int (nI fr), .int vl, .ref ma]))], [(tx, .inl (D.1 101, 90, .inl bt))]])) (zQ (S := Unit) (fun _ => False) (fun _ => none) (fun _ => []) D A) (zXC (S := Nat) (fun q_ E_ => fun u => (fun (z : Nat) => E_ = "StepRiders$Fault" ∧ q_ = z) u) (fun u => (fun (z : Nat) => [[(q, .inr (5, [.ref tx, .int (nI t), .int (nI p), .int tk, .int (nI fr), .int vl, .ref ma]))], [(tx, .inl (D.1 101, 90, .inl bt))], [(z, .inr (6, [.null, .null, .null, .null, .null, .int 0, .int kk, .int (nI fr)]))]]) u) D A) 1 8 A := by
  refine z_xentry (by decide +kernel) (Nat.le_of_ble_eq_true rfl) (fun pX eX sX mX argsX blX mtX cX QX hQX gX hAX hnm htX => ?_)
  refine z_eq (lv₂ := [(0, .ref q), (1, .int v)]) (st₂ := []) ?_ rfl rfl
  subst hkk
  refine z_aload_n (pc := 0) gX 0 dX5_sign_0 rfl rfl ?_
  refine z_aload_n (pc := 1) gX 0 dX5_sign_1 rfl rfl ?_
  refine z_iconst (pc := 2) gX 3 dX5_sign_2 (by decide) ?_
  refine z_iload_n (pc := 3) gX 1 dX5_sign_3 rfl rfl ?_
  refine z_cOV (pc := 4) gX (zI_ok gX hAX) [.int 3, .int v] [.ref q] [0] (met_X5_is l D B0 q tx t p tk fr vl ma bt tp 3 v ) q513 q515 qs9 q65 q516 (zm 0 rfl) (ci := 5) rfl rfl hd_X5_is ⟨rfl, rfl⟩ ⟨(Nat.le_of_ble_eq_true rfl), (Nat.le_of_ble_eq_true rfl)⟩ rfl rfl rfl (Nat.le_of_ble_eq_true rfl) ⟨(Nat.le_of_ble_eq_true rfl), (Nat.le_of_ble_eq_true rfl)⟩ dX5_sign_4 ?_
  intro _ hu4
  refine z_eq (lv₂ := [(0, .ref q), (1, .int v)]) (st₂ := [.int (bI (decide (tk = 3) && decide (vl = v))), .ref q]) ?_ rfl rfl
  refine z_iconst (pc := 7) gX 1 dX5_sign_7 (by decide) ?_
  refine z_xV (pc := 8) gX hAX [.int (bI (decide (tk = 3) && decide (vl = v))), .int 1] [] [0] [1] (fun A1 => met_X5_mustX l D B0 A1 q tx t p tk fr vl ma bt tp (bI (decide (tk = 3) && decide (vl = v))) 1 (by simp only [bI]; grind)) q517 q519 qs10 q65 q520 (zm 0 rfl) (ci := 5) rfl rfl hd_X5_must ⟨rfl, rfl⟩ ⟨(Nat.le_of_ble_eq_true rfl), (Nat.le_of_ble_eq_true rfl)⟩ rfl rfl rfl rfl rfl (Nat.le_of_ble_eq_true rfl) ⟨(Nat.le_of_ble_eq_true rfl), (Nat.le_of_ble_eq_true rfl)⟩ dX5_sign_8 (fun E_8 u_8 => ?_) (fun _ hF => hF.elim)
  obtain ⟨z_8, rfl⟩ : ∃ z, z = u_8 := ⟨_, rfl⟩
  refine z_xpx (E0 := "StepRiders$Fault") (PX1 := fun q_ => q_ = z_8) (fun _ h => h) ?_
  refine z_xper [0, 2, 1] [[(q, .inr (5, [.ref tx, .int (nI t), .int (nI p), .int tk, .int (nI fr), .int vl, .ref ma]))], [(tx, .inl (D.1 101, 90, .inl bt))], [(z_8, .inr (6, [.null, .null, .null, .null, .null, .int 0, .int 1, .int (nI fr)]))]] rfl rfl ?_
  exact z_xout gX hQX (htX _) (fun _ => z_8) (fun _ h => ⟨rfl, h⟩) (fun _ => rfl) (by first | decide | omega) (by first | decide | omega)

