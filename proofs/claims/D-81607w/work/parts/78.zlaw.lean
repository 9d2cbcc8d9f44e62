set_option maxRecDepth 100000
/-! THE LAW: rules for its body -/
section ZLW
variable {p : Program} {l : Launch} {e : Env} {R : Room} {s : State} {m : MethodId} {args : Array Value} {below : List Frame} {meth : Method} {c : Code} {Q : State → Prop} {nL : Nat} {D : va_G} {A : Nat → Prop} {cells slots : Nat} {cc : ByteArray} {own : String} {ret : Option FieldType} {B0 : Nat} {pc : Nat} {lv lv' : List (Nat × Value)} {st : List Value} {ws ws' wc wr : List va_W} {I : Heap → List Loc → Prop}
theorem z_cMVW {S : Type} {post : S → Prop} {val : S → Option Value} {w1 : S → List va_W} {mc ms : Nat} {y : MethodName} {bytes : ByteArray} {maxL n index b ci : Nat} {fs : List Value} {r : vw_C} {rety : Option FieldType} {hh : List (Nat × Nat × Nat × Nat)} {rm : Room} (g : zG p s m args meth c cc nL own ret D B0) (hA : zA s A B0) (As rest : List Value) {st0 : List Value} (isC isR : List Nat) (hM : ∀ A1 : Nat → Prop, Met l y (wsW_ y bytes maxL rety hh) rm (va_Pc (.ref b :: As) (zPre B0 D A1 wc)) (zQ post val w1 D A1) mc ms A1) (q1 : Cond.methodLink own index y ∈ lw_all) (q2 : Cond.instanceMethod y ∈ lw_all) (q3 : Cond.selects r.1 y y ∈ lw_all) (q4 : Cond.initialized r.1 ∈ lw_all) (q5 : Cond.codeWith y bytes maxL rety hh ∈ lw_all) (hm : (b, .inr (ci, fs)) ∈ ws.flatten) (hc : vwCl[ci]? = some r) (hcl : y.cls = r.1) (hd : zHd y n) (hrm : rm.cells = mc ∧ rm.slots = ms) (hR : rm.frames + 1 ≤ R.frames ∧ 8 + (maxL + 11) + rm.locals ≤ R.locals) (hwc : zPick ws isC = wc) (hwr : zPick ws isR = wr) (hperm : (isC ++ isR).isPerm (List.range ws.length) = true) (hn : As.length = n) (hst : st0 = As.reverse ++ .ref b :: rest) (hro : (rest.map fun v => v.category).sum ≤ 8) (hf : cells + mc ≤ R.cells ∧ slots + ms ≤ R.slots) (d : decode cc pc = .ok (.invokevirtual index, 3)) (kk : ∀ u : S, post u → (zJ p l e R s m args below meth c Q nL (zI D A s (w1 u ++ wr)) (cells + mc) (slots + ms) (pc + 3) (lv) ((val u).toList ++ rest))) : (zJ p l e R s m args below meth c Q nL (zI D A s ws) (cells) (slots) (pc) (lv) (st0)) :=
  z_mut hA isC isR hwc hwr hperm (fun H locs ls hI hl => vx_runVW g.fix (hM _) (vx_cwVW n g.ts (lw_VW q1 q2 q3 q4 q5) rfl hrm.1 hrm.2 ⟨hcl, hd⟩ hR) ⟨zPre.blind, z_recv g.K hI.1 hm hc, z_prem g hA hI isC isR hwc hwr hperm⟩ rfl hn hl.1 hst (lv_room hro) d hf) kk
theorem z_sld (g : zG p s m args meth c cc nL own ret D B0) {b L j : Nat} {xs : Nat → Int32} (hX : va_X b L xs s s.heap) (hbl : b < s.heap.size) (hbA : ¬ A b) (hj : j < L) (hL : L ≤ 384) (d : decode cc pc = .ok (.iaload, 1)) (kk : (zJ p l e R s m args below meth c Q nL (zI D A s ws) (cells) (slots) (pc + 1) (lv) (.int (xs j) :: st))) : (zJ p l e R s m args below meth c Q nL (zI D A s ws) (cells) (slots) (pc) (lv) (.int (nI j) :: .ref b :: st)) := by
  intro H locs ls hI hl
  have e1 := nI_clamp (n := j) (by omega)
  refine va_sld g.1 g.2.1 hX hbl hbA hI.2.2 (vp_in_nI hj (by omega)) d ?_
  rw [e1]
  exact kk H locs ls hI hl
theorem z_slen (g : zG p s m args meth c cc nL own ret D B0) {b L : Nat} {xs : Nat → Int32} (hX : va_X b L xs s s.heap) (hbl : b < s.heap.size) (hbA : ¬ A b) (d : decode cc pc = .ok (.arraylength, 1)) (kk : (zJ p l e R s m args below meth c Q nL (zI D A s ws) (cells) (slots) (pc + 1) (lv) (.int (nI L) :: st))) : (zJ p l e R s m args below meth c Q nL (zI D A s ws) (cells) (slots) (pc) (lv) (.ref b :: st)) := fun H locs ls hI hl => va_slen g.1 g.2.1 hX hbl hbA hI.2.2 d (kk H locs ls hI hl)
/-- the cells that a step needs, the rest as one pool -/
theorem z_frame (isC isR : List Nat) (hwc : zPick ws isC = wc) (hwr : zPick ws isR = wr) (hperm : (isC ++ isR).isPerm (List.range ws.length) = true) (k : (zJ p l e R s m args below meth c Q nL (zI D A s (wc ++ [wr.flatten])) (cells) (slots) (pc) (lv) (st))) : (zJ p l e R s m args below meth c Q nL (zI D A s ws) (cells) (slots) (pc) (lv) (st)) :=
  z_ws (wc ++ [wr.flatten]) (by
    have := zPick_perm2 isC isR hwc hwr hperm
    rw [List.flatten_append, List.flatten_cons, List.flatten_nil, List.append_nil]
    exact this.symm) k
theorem z_unfr (wc wr : List va_W) (k : (zJ p l e R s m args below meth c Q nL (zI D A s (wc ++ wr)) (cells) (slots) (pc) (lv) (st))) : (zJ p l e R s m args below meth c Q nL (zI D A s (wc ++ [wr.flatten])) (cells) (slots) (pc) (lv) (st)) :=
  z_ws (wc ++ wr) (by rw [List.flatten_append, List.flatten_append, List.flatten_cons, List.flatten_nil, List.append_nil]) k
end ZLW
theorem lw_gt {i L : Nat} (hL : L ≤ 384) (hi : i ≤ 400) : nI L - 6 < nI i ↔ L < i + 6 := by
  rcases Nat.lt_or_ge L 6 with h | h
  · have h1 : ∀ L : Nat, L < 6 → nI L - 6 < 0 := by decide +kernel
    exact ⟨fun _ => by omega, fun _ => Int32.lt_of_lt_of_le (h1 L h) (nI_pos' (by omega))⟩
  · rw [show (6 : Int32) = nI 6 from rfl, it_sub h, zn_lt (by omega) (by omega)]
    omega

