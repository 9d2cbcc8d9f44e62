set_option maxRecDepth 100000
/-! A NATIVE THAT THROWS (no traces kept); System.arraycopy -/
section ZNT
set_option maxHeartbeats 2000000 in
theorem vd_natMsg {p : Program} {l : Launch} {e : Env} {R : Room} {s : State} {m₀ : MethodId} {args : Array Value} {below : List Frame} {meth : Method} {c : Code} {W : State} {locs : List Loc} {cells slots : Nat}
    (X : Stand p l e R s m₀ args below meth c W locs cells slots) (hexec : p.tables.exec = Jvm.exec) (htr : e.platform.stackTraces = false) {cls : String} {names : List String} {text : String}
    (hcls : Bundle.fit cls = true) (hnames : ∀ n ∈ names, Bundle.fit n = true) (hsoe : (cls == "java/lang/StackOverflowError") = false) (hoom : (cls == "java/lang/OutOfMemoryError") = false)
    (h : ∀ a ∈ Bundle.messageArmAtoms cls names, a.before args s = true)
    (hlocs : ∀ x ∈ locs, ∀ cell, s.heap[x.base]? = some cell → cell.vm.isStatics = false)
    (htext : (text == notModelled) = false) (hlimit : ¬ (stringBytes (stringToUtf16 text)).size > e.platform.arrayLengthLimit) (hheap : ¬ (stringBytes (stringToUtf16 text)).size * componentBytes .byte > e.platform.maxHeapBytes)
    {g : JFrame} (hg : g.method = m₀) (hsize : g.locals.size = c.maxLocals) {nf : NFrame} (hnf : nf.words = 0)
    (hRframes : names.length + 5 < R.frames) (hRlocals : 2 * g.monitorRoom + (g.stack.map fun v => v.category).sum + 10240 ≤ R.locals) (hshort : 13 * names.length + 55 ≤ 10240)
    (hRcells : cells + 3 ≤ R.cells) (hRslots : slots + ((stringBytes (stringToUtf16 text)).size + 4 + 6) ≤ R.slots) :
    ∃ (S : State) (q : Addr) (ce : Cell), Steps p.tables e below (W.setFrames (.throwNew cls (some text) none :: .native nf :: .java g :: below)) (S.setFrames (.throwing q :: .native nf :: .java g :: below)) ∧
      Stand p l e R s m₀ args below meth c S locs (cells + 3) (slots + ((stringBytes (stringToUtf16 text)).size + 4 + 6)) ∧ S.heap[q]? = some ce ∧ s.vm.findClass cls = some ce.cls ∧ ce.vm = .none := by
  have howns : e.platform.frameOwnsMonitors = true := by rw [X.admits.platform]
  have hfin : e.platform.finalization = false := by rw [X.admits.platform]
  have hpl : e.platform.magicAccessors = ({} : Platform).magicAccessors := by rw [X.admits.platform]
  have a : ∀ x, x ∈ Bundle.messageArmAtoms cls names → x.holds args s none s [] = true := fun x hx => h x hx
  obtain ⟨T, Z0, L, -, Y⟩ := ThrowableC.of_atoms (args := args) howns hfin hpl (fun x hx => h x (by simp [Bundle.messageArmAtoms, hx]))
  obtain ⟨Z, M, LZ, LM, hnZ⟩ := Init0T.ofS_atoms (args := args) hpl L Y (fun x hx => h x (by simp [Bundle.messageArmAtoms, hx]))
  obtain ⟨P1, Ps, hlen, L1, hL, hP1m, hlink1, hlink⟩ := Bundle.chainS (args := args) hpl hnZ names cls hcls hnames (fun x hx => h x (by simp [Bundle.messageArmAtoms, hx]))
  obtain ⟨Zs, LZs, hn4, hfitv, hfitc⟩ := StringT.of_atoms (args := args) (fun x hx => h x (by simp [Bundle.messageArmAtoms, hx]))
  have hfound : s.vm.findClass cls = some P1.m.cls := findClass_of_methodNamed hP1m
  obtain ⟨c1, kX, hc1, hk, hord, -, -, hn6⟩ := Cond.instantiable_spec (a (.instantiable cls 6) (by simp [Bundle.messageArmAtoms]))
  cases Option.some.inj (hc1.symm.trans hfound)
  have hinit := Cond.initialized_spec hfound hk (a (.initialized cls) (by simp [Bundle.messageArmAtoms]))
  have hctor : kX.findMethod "<init>" "(Ljava/lang/String;)V" = some P1.m.idx := findMethod_of_methodNamed hP1m hk
  have hsel0 : selectMethod e.platform s.vm P1.m.cls T.fill0 = .method T.fill0 := by
    obtain ⟨c2, r2, m2, q1, q2, q3, q4, -⟩ := Cond.selects_spec (a (.selects cls Bundle.tFill0 Bundle.tFill0) (by simp [Bundle.messageArmAtoms]))
    cases Option.some.inj (q1.symm.trans hfound)
    cases Option.some.inj (q2.symm.trans (State.methodFound?_of_named Y.fill0 (by decide)))
    cases Option.some.inj (q3.symm.trans Y.fill0)
    rw [Launch.admits_selectMethod X.admits]; exact q4
  have hselF : selectMethod e.platform s.vm P1.m.cls T.fill = .method T.fill := by
    obtain ⟨c2, r2, m2, q1, q2, q3, q4, -⟩ := Cond.selects_spec (a (.selects cls Bundle.tFill Bundle.tFill) (by simp [Bundle.messageArmAtoms]))
    cases Option.some.inj (q1.symm.trans hfound)
    cases Option.some.inj (q2.symm.trans (State.methodFound?_of_named Y.fill (by decide)))
    cases Option.some.inj (q3.symm.trans Y.fill)
    rw [Launch.admits_selectMethod X.admits]; exact q4
  obtain ⟨cellS0, hcS0, hiss⟩ := Y.statics
  obtain ⟨u0, hu0⟩ := Cond.staticRefV Y.unassigned L.unassignedStatic L.statics hcS0 hiss (a (.isRef (.static Bundle.tN "UNASSIGNED_STACK" Bundle.steD)) (by simp [Bundle.messageArmAtoms]))
  obtain ⟨sen, hsen⟩ := Cond.staticRefV Y.sentinel L.sentinelStatic L.statics hcS0 hiss (a (.isRef (.static Bundle.tN "SUPPRESSED_SENTINEL" Bundle.listD)) (by simp [Bundle.messageArmAtoms]))
  obtain ⟨ci198, i198, fB, hk198, hg198, ha198, hsB, -, hnB, htB, hffB⟩ := Cond.ownField (t := .object "java/lang/Object") Y.found L.cls (by decide +kernel) (a (.fieldLink Bundle.tN 198 Bundle.tN "backtrace" "Ljava/lang/Object;") (by simp [Bundle.messageArmAtoms])) (a (.lays Bundle.tN Bundle.tN "backtrace" "Ljava/lang/Object;") (by simp [Bundle.messageArmAtoms])) e.platform hpl
  obtain ⟨cellS, hcS', heS, -, hkeep⟩ := X.same.2.2.2.2.2 T.aS cellS0 hcS0
  have hcellS : W.heap[T.aS]? = some cellS := hcS'
  have hout' : ∀ i, (⟨T.aS, i⟩ : Loc) ∉ locs := fun i hmem => by
    have := hlocs _ hmem cellS0 hcS0
    rw [hiss] at this; cases this
  have hknownS : cellS.vm ≠ .unknown := by
    rw [heS]; intro hu
    rw [show cellS0.vm = .unknown from hu] at hiss
    cases hiss
  have hvU : cellS.slots[T.fUnassigned.slot]? = some u0.v := by rw [hkeep _ (hout' _)]; exact hu0
  have hvSen : cellS.slots[T.fSentinel.slot]? = some sen.v := by rw [hkeep _ (hout' _)]; exact hsen
  obtain ⟨iM, hffM⟩ := Y.msg
  obtain ⟨tyC, dC, hdC, hdnC⟩ := Cond.laysAt hfound hk Y.cause (a (.lays cls Bundle.tN "cause" "Ljava/lang/Throwable;") (by simp [Bundle.messageArmAtoms]))
  obtain ⟨tyS, dS, hdS, hdnS⟩ := Cond.laysAt hfound hk Y.stack (a (.lays cls Bundle.tN "stackTrace" Bundle.steD) (by simp [Bundle.messageArmAtoms]))
  obtain ⟨tyP, dP, hdP, hdnP⟩ := Cond.laysAt hfound hk Y.supp (a (.lays cls Bundle.tN "suppressedExceptions" Bundle.listD) (by simp [Bundle.messageArmAtoms]))
  obtain ⟨tyM, dM, hdM, hdnM⟩ := Cond.laysAt hfound hk hffM (a (.lays cls Bundle.tN "detailMessage" "Ljava/lang/String;") (by simp [Bundle.messageArmAtoms]))
  obtain ⟨tyB, dB, hdB, hdnB⟩ := Cond.laysAt hfound hk hffB (a (.lays cls Bundle.tN "backtrace" "Ljava/lang/Object;") (by simp [Bundle.messageArmAtoms]))
  have bC := Cond.laysApart hdB hdC hdnB hdnC (by rw [hnB, Y.causeName]; decide)
  have bS := Cond.laysApart hdB hdS hdnB hdnS (by rw [hnB, Y.stackName]; decide)
  have bP := Cond.laysApart hdB hdP hdnB hdnP (by rw [hnB, Y.suppName]; decide)
  have hbk : ((preparedCellV T.toThrowableT (freshCell P1.m.cls kX) (W.heap.size + 2) u0 sen).withEntry W.cur).slots[fB.slot]? = some .null := by
    have := fresh_default (c := P1.m.cls) tyB
    rw [htB] at this
    simpa [preparedCellV, Cell.setSlot, Cell.withEntry, Array.getElem?_setIfInBounds, bC, bS, bP, bC.symm, bS.symm, bP.symm, defaultValue] using this
  have tkC := Takes.of_laid (v := .ref (W.heap.size + 2)) hk hord tyC (by rw [Y.causeType]; rfl)
  have tkS := Takes.of_laid (v := u0.v) hk hord tyS (by rw [Y.stackType]; exact fits_refV_array _ u0)
  have tkP := Takes.of_laid (v := sen.v) hk hord tyP (by rw [Y.suppType]; exact fits_refV_object _ sen)
  have tkM := Takes.of_laid (v := .ref (W.heap.size + 1)) hk hord tyM (by rw [Y.msgType]; rfl)
  have hskip : SkipFacts T e.platform s (fun u => u) u0 ((preparedCellV T.toThrowableT (freshCell P1.m.cls kX) (W.heap.size + 2) u0 sen).withEntry W.cur) := ⟨{ ci198 := ci198, i198 := i198, fBack := fB }, ⟨hk198, hg198, ha198, hsB⟩, hbk, fun _ _ => rfl⟩
  obtain ⟨vm', X5, h1, hkept⟩ := X.nativeThrowsMessageColdBareV hexec hsize hnf T L Z LZ M LM Zs LZs P1 L1 Ps hL hlink1 hlink hsoe hoom hfound hk hinit hord hctor htext hlimit hheap
    (hfitv _) (hfitc _) hsel0 hselF hcellS hknownS hvU hvSen tkC tkS tkP tkM Y.objLocals hskip (fun _ _ hA hW _ hroom _ hrest => L.nativeOff p htr hA hW hroom hrest)
    (by rw [hlen]; exact hRframes) hRlocals (by rw [hlen]; exact hshort) (by omega) (by rw [hn4, hn6]; omega)
  have b1 : (bytesOf Zs.cB (stringToUtf16 text)).slots.size = (stringBytes (stringToUtf16 text)).size := by
    rw [(Cell.writeAll_facts _ _).2.2]; simp [bytes0]
  have b2 : (stringAt Zs.cS Zs.kS Zs.fv Zs.fc (stringToUtf16 text) W.heap.size).slots.size = 4 := by simp [string0, Cell.setSlot, hn4]
  have b3 : (freshCell P1.m.cls kX).slots.size = 6 := by simp [hn6]
  have hlt : W.heap.size + 2 < ((withThrown W Zs text P1.m.cls kX).setVm vm').heap.size := by
    show W.heap.size + 2 < (withThrown W Zs text P1.m.cls kX).heap.size
    rw [(withThrown_facts e.platform W Zs text P1.m.cls kX).2.2.1]; omega
  rw [b1, b2, b3] at X5
  have e9 : slots + (stringBytes (stringToUtf16 text)).size + 4 + 6 = slots + ((stringBytes (stringToUtf16 text)).size + 4 + 6) := by omega
  rw [e9] at X5
  refine ⟨_, W.heap.size + 2, _, h1, X5.forget (fun y hy => ?_), heapAt_setCell_self _ hlt, hfound, rfl⟩
  simp only [List.mem_cons, List.not_mem_nil, or_false] at hy
  have hge : s.heap.size ≤ W.heap.size := X.same.2.1
  rcases hy with rfl | rfl | rfl | rfl | rfl <;> exact Nat.le_trans hge (Nat.le_add_right _ 2)

/-- a native that throws NullPointerException: shown in the last part, over the whole library -/
def NatNpe : Prop := ∀ {p : Program} {l : Launch} {e : Env} {R : Room} {s : State} {m₀ : MethodId} {args : Array Value} {below : List Frame} {meth : Method} {c : Code} {W : State} {locs : List Loc} {cells slots : Nat}
    (X : Stand p l e R s m₀ args below meth c W locs cells slots) (hexec : p.tables.exec = Jvm.exec) (htr : e.platform.stackTraces = false) {n : Nat}
    (h : ∀ a ∈ Bundle.npeArmAtoms n, a.before args s = true)
    (hlocs : ∀ x ∈ locs, ∀ cell, s.heap[x.base]? = some cell → cell.vm.isStatics = false)
    {g : JFrame} (hg : g.method = m₀) (hsize : g.locals.size = c.maxLocals) {nf : NFrame} (hnf : nf.words = 0)
    (hRframes : 8 < R.frames) (hRlocals : 2 * g.monitorRoom + (g.stack.map fun v => v.category).sum + 10240 ≤ R.locals)
    (hRcells : cells + 1 ≤ R.cells) (hRslots : slots + n ≤ R.slots),
    ∃ (S : State) (q : Addr) (ce : Cell), Steps p.tables e below (W.setFrames (.throwNew "java/lang/NullPointerException" none none :: .native nf :: .java g :: below)) (S.setFrames (.throwing q :: .native nf :: .java g :: below)) ∧
      Stand p l e R s m₀ args below meth c S locs (cells + 1) (slots + n) ∧ S.heap[q]? = some ce ∧ s.vm.findClass "java/lang/NullPointerException" = some ce.cls ∧ ce.vm = .none
variable {p : Program} {l : Launch} {e : Env} {R : Room} {s : State} {m : MethodId} {args : Array Value} {below : List Frame} {meth : Method} {c : Code} {H : Heap} {locs : List Loc} {cells slots : Nat}

theorem vd_msgN {T : State} (X : Stand p l e R s m args below meth c T locs cells slots) (hexec : p.tables.exec = Jvm.exec) (hl : l.stackTraces = false) {cls text : String} {names : List String} {nb : Nat} {A : Nat → Prop}
    (hcls : Bundle.fit cls = true) (hnames : ∀ n ∈ names, Bundle.fit n = true) (hsoe : (cls == "java/lang/StackOverflowError") = false) (hoom : (cls == "java/lang/OutOfMemoryError") = false)
    (hat : ∀ w ∈ vx_atM cls names, w.before args s = true) (hgood : ∀ w ∈ vx_atM cls names, vx_ot w = true) (htext : (text == notModelled) = false) (hnb : (stringBytes (stringToUtf16 text)).size ≤ nb) (hnb1 : nb ≤ 1000)
    (hU : vx_Zq Bundle.tN "UNASSIGNED_STACK" Bundle.steD A s s.heap) (hN : vx_Zq Bundle.tN "SUPPRESSED_SENTINEL" Bundle.listD A s s.heap) (hS : va_S A s.heap T.heap locs) {g : JFrame} (hg : g.method = m) (hsize : g.locals.size = c.maxLocals) {nf : NFrame} (hnf : nf.words = 0)
    (hRframes : names.length + 5 < R.frames) (hRlocals : 2 * g.monitorRoom + (g.stack.map fun v => v.category).sum + 10240 ≤ R.locals) (hshort : 13 * names.length + 55 ≤ 10240) (hRcells : cells + 3 ≤ R.cells) (hRslots : slots + (nb + 10) ≤ R.slots) :
    ∃ (S : State) (q : Addr) (ce : Cell), Steps p.tables e below (T.setFrames (.throwNew cls (some text) none :: .native nf :: .java g :: below)) (S.setFrames (.throwing q :: .native nf :: .java g :: below)) ∧ Stand p l e R s m args below meth c S locs (cells + 3) (slots + (nb + 10)) ∧
      S.heap[q]? = some ce ∧ ce.vm = .none ∧ s.vm.findClass cls = some ce.cls ∧ T.heap.size ≤ S.heap.size ∧ (∀ q : Nat, q < T.heap.size → S.heap[q]? = T.heap[q]?) ∧ va_S A s.heap S.heap locs := by
  have htr : e.platform.stackTraces = false := (show e.platform.stackTraces = l.stackTraces by rw [X.admits.platform]).trans hl
  have Y := vx_rebase X (R' := { frames := R.frames, locals := R.locals, cells := 3, slots := (nb + 10) }) (Nat.le_refl _) (Nat.le_refl _) hRcells hRslots
  have hhp : ((T.setVm s.vm).setFrames (.invoking m args :: below)).heap = T.heap := rfl
  have hW0 : s.WarmedH ((T.setVm s.vm).setFrames (.invoking m args :: below)).vm := State.WarmedH.refl s
  have hat' : ∀ w ∈ vx_atM cls names, w.before args ((T.setVm s.vm).setFrames (.invoking m args :: below)) = true := fun w hw => vx_ot_at hW0 rfl (hgood w hw) (hat w hw)
  have hU' : vx_Zq Bundle.tN "UNASSIGNED_STACK" Bundle.steD A ((T.setVm s.vm).setFrames (.invoking m args :: below)) ((T.setVm s.vm).setFrames (.invoking m args :: below)).heap := by rw [hhp]; exact vx_Zq.moved hW0.alike (hU.kept hS.2.1)
  have hN' : vx_Zq Bundle.tN "SUPPRESSED_SENTINEL" Bundle.listD A ((T.setVm s.vm).setFrames (.invoking m args :: below)) ((T.setVm s.vm).setFrames (.invoking m args :: below)).heap := by rw [hhp]; exact vx_Zq.moved hW0.alike (hN.kept hS.2.1)
  obtain ⟨S, q, ce, st, Z, hce, hcl', hv⟩ := vd_natMsg Y hexec htr (cls := cls) (names := names) (text := text) hcls hnames hsoe hoom (vx_own hat' (vx_isRefq hU'.1) (vx_isRefq hN'.1) hU'.2.word hN'.2.word) (fun x hx => nomatch hx) htext
    (by rw [Launch.admits_arrayLengthLimit X.admits]; omega) (by rw [Launch.admits_maxHeapBytes X.admits]; simp only [componentBytes]; omega)
    hg hsize hnf hRframes hRlocals hshort (by show 0 + 3 ≤ 3; omega) (by show 0 + (_ + 4 + 6) ≤ nb + 10; omega)
  obtain ⟨f1, f2⟩ := vx_frame Z.same
  have f2' : ∀ q : Nat, q < T.heap.size → S.heap[q]? = T.heap[q]? := fun q hq => f2 q hq (fun z hz => nomatch hz)
  have X5 := vx_back9 X Y Z
  have X6 : Stand p l e R s m args below meth c S locs (cells + 3) (slots + (nb + 10)) := { X5 with same := X5.same.mono (by omega) (by omega) }
  exact ⟨S, q, ce, st, X6, hce, hv, hcl', f1, f2', Nat.le_trans hS.1 f1, fun q h1 h2 => (f2' q (Nat.lt_of_lt_of_le h1 hS.1)).trans (hS.2.1 q h1 h2), hS.2.2⟩

theorem vd_npeN {T : State} (X : Stand p l e R s m args below meth c T locs cells slots) (hexec : p.tables.exec = Jvm.exec) (hl : l.stackTraces = false) (hNP : NatNpe) {nb : Nat} {A : Nat → Prop}
    (hat : ∀ w ∈ vx_atN nb, w.before args s = true) (hgood : ∀ w ∈ vx_atN nb, vx_ot w = true)
    (hU : vx_Zq Bundle.tN "UNASSIGNED_STACK" Bundle.steD A s s.heap) (hN : vx_Zq Bundle.tN "SUPPRESSED_SENTINEL" Bundle.listD A s s.heap) (hS : va_S A s.heap T.heap locs) {g : JFrame} (hg : g.method = m) (hsize : g.locals.size = c.maxLocals) {nf : NFrame} (hnf : nf.words = 0)
    (hRframes : 8 < R.frames) (hRlocals : 2 * g.monitorRoom + (g.stack.map fun v => v.category).sum + 10240 ≤ R.locals) (hRcells : cells + 1 ≤ R.cells) (hRslots : slots + nb ≤ R.slots) :
    ∃ (S : State) (q : Addr) (ce : Cell), Steps p.tables e below (T.setFrames (.throwNew "java/lang/NullPointerException" none none :: .native nf :: .java g :: below)) (S.setFrames (.throwing q :: .native nf :: .java g :: below)) ∧ Stand p l e R s m args below meth c S locs (cells + 1) (slots + nb) ∧
      S.heap[q]? = some ce ∧ ce.vm = .none ∧ s.vm.findClass "java/lang/NullPointerException" = some ce.cls ∧ T.heap.size ≤ S.heap.size ∧ (∀ q : Nat, q < T.heap.size → S.heap[q]? = T.heap[q]?) ∧ va_S A s.heap S.heap locs := by
  have htr : e.platform.stackTraces = false := (show e.platform.stackTraces = l.stackTraces by rw [X.admits.platform]).trans hl
  have Y := vx_rebase X (R' := { frames := R.frames, locals := R.locals, cells := 1, slots := nb }) (Nat.le_refl _) (Nat.le_refl _) hRcells hRslots
  have hhp : ((T.setVm s.vm).setFrames (.invoking m args :: below)).heap = T.heap := rfl
  have hW0 : s.WarmedH ((T.setVm s.vm).setFrames (.invoking m args :: below)).vm := State.WarmedH.refl s
  have hat' : ∀ w ∈ vx_atN nb, w.before args ((T.setVm s.vm).setFrames (.invoking m args :: below)) = true := fun w hw => vx_ot_at hW0 rfl (hgood w hw) (hat w hw)
  have hU' : vx_Zq Bundle.tN "UNASSIGNED_STACK" Bundle.steD A ((T.setVm s.vm).setFrames (.invoking m args :: below)) ((T.setVm s.vm).setFrames (.invoking m args :: below)).heap := by rw [hhp]; exact vx_Zq.moved hW0.alike (hU.kept hS.2.1)
  have hN' : vx_Zq Bundle.tN "SUPPRESSED_SENTINEL" Bundle.listD A ((T.setVm s.vm).setFrames (.invoking m args :: below)) ((T.setVm s.vm).setFrames (.invoking m args :: below)).heap := by rw [hhp]; exact vx_Zq.moved hW0.alike (hN.kept hS.2.1)
  obtain ⟨S, q, ce, st, Z, hce, hcl', hv⟩ := hNP Y hexec htr (n := nb) (vx_own hat' (vx_isRefq hU'.1) (vx_isRefq hN'.1) hU'.2.word hN'.2.word) (fun x hx => nomatch hx)
    hg hsize hnf hRframes hRlocals (by show 0 + 1 ≤ 1; omega) (by show 0 + nb ≤ nb; omega)
  obtain ⟨f1, f2⟩ := vx_frame Z.same
  have f2' : ∀ q : Nat, q < T.heap.size → S.heap[q]? = T.heap[q]? := fun q hq => f2 q hq (fun z hz => nomatch hz)
  have X5 := vx_back9 X Y Z
  have X6 : Stand p l e R s m args below meth c S locs (cells + 1) (slots + nb) := { X5 with same := X5.same.mono (by omega) (by omega) }
  exact ⟨S, q, ce, st, X6, hce, hv, hcl', f1, f2', Nat.le_trans hS.1 f1, fun q h1 h2 => (f2' q (Nat.lt_of_lt_of_le h1 hS.1)).trans (hS.2.1 q h1 h2), hS.2.2⟩

/-- a call of arraycopy that throws: the note of the native, what was made of it -/
theorem vd_copyT {T : State} (X : Stand p l e R s m args below meth c T locs cells slots) (hexec : p.tables.exec = Jvm.exec) {own : String} {index : Nat} (hown : s.vm.findClass own = some m.cls) (hlink : (Cond.methodLink own index arraycopyName).before args s = true) (hnat : (Cond.native arraycopyName).before args s = true) (hstat : (Cond.static arraycopyName).before args s = true) (hini : (Cond.initialized "java/lang/System").before args s = true)
    {v1 v2 : Value} {i1 i2 i3 : Int32} {cls : String} {msg : Option String} {k n : Nat} {rest : List Value} {g : JFrame} (hg : g.method = m) (hsize : g.locals.size = c.maxLocals) (hmr : g.monitorRoom = 0) (hstack : g.stack = .int i3 :: .int i2 :: v2 :: .int i1 :: v1 :: rest) (hdg : decode c.code g.pc = .ok (.invokestatic index, 3))
    (hv : v1.isRef = true ∧ v2.isRef = true) (hfr : 1 ≤ R.frames) (hlo : (rest.map fun v => v.category).sum + 10240 ≤ R.locals)
    (hwp : ∀ (vm' : Vm) (fs : List Frame) (E : CtlPost), s.WarmedH vm' → (∀ acts', E (.throwNew cls msg) acts' ((T.setVm vm').setFrames fs)) → wp (Native.java_lang_System.arraycopy.sem #[v1, .int i1, v2, .int i2, .int i3]) (fun _ _ _ _ => False) E e false [] ((T.setVm vm').setFrames fs))
    (hmk : ∀ (vm' : Vm) (nf : NFrame), nf.words = 0 → Stand p l e R s m args below meth c (T.setVm vm') locs cells slots → ∃ (S : State) (q : Addr) (ce : Cell), Steps p.tables e below ((T.setVm vm').setFrames (.throwNew cls msg none :: .native nf :: .java { g with stack := rest } :: below)) (S.setFrames (.throwing q :: .native nf :: .java { g with stack := rest } :: below)) ∧ Stand p l e R s m args below meth c S locs (cells + k) (slots + n) ∧
      S.heap[q]? = some ce ∧ ce.vm = .none ∧ s.vm.findClass cls = some ce.cls ∧ T.heap.size ≤ S.heap.size ∧ (∀ q : Nat, q < T.heap.size → S.heap[q]? = T.heap[q]?)) :
    ∃ (S : State) (q : Addr) (ce : Cell), Stand p l e R s m args below meth c S locs (cells + k) (slots + n) ∧ S.heap[q]? = some ce ∧ ce.vm = .none ∧ s.vm.findClass cls = some ce.cls ∧ T.heap.size ≤ S.heap.size ∧ (∀ q : Nat, q < T.heap.size → S.heap[q]? = T.heap[q]?) ∧
      Steps p.tables e below (T.setTop g) ((S.setTop { g with stack := rest }).pushFrame (.throwing q)) := by
  obtain ⟨mk, km, methM, hnamed, -, -, N⟩ := NativeOf.of_static (ps := [.object "java/lang/Object", .int, .object "java/lang/Object", .int, .int]) (ret := none) hnat hstat (by decide +kernel)
  have hmeth : s.vm.method? mk = some methM := by simp [Vm.method?, N.cls, N.meth]
  obtain ⟨vm₁, X₁, hstep₁⟩ := X.invokestatic hexec hown hlink hnamed hmeth N.static N.cls (Cond.initialized_spec (findClass_of_methodNamed hnamed) N.cls hini) (by decide +kernel) (g := g) hg (argsL := [v1, .int i1, v2, .int i2, .int i3]) (rest := rest) (by rw [N.sig]; rfl) hstack hdg
  obtain ⟨k', N'⟩ := N.alike X₁.warmed.alike
  have rr : ∀ v : Value, v.isRef = true → v = .null ∨ ∃ a, v = .ref a := fun v h => by
    cases v with
    | null => exact Or.inl rfl
    | ref a => exact Or.inr ⟨a, rfl⟩
    | int _ => cases h
    | long _ => cases h
    | float _ => cases h
    | double _ => cases h
    | _ => cases h
  have hseen : seenByNative methM #[v1, .int i1, v2, .int i2, .int i3] = #[v1, .int i1, v2, .int i2, .int i3] := by
    rcases rr v1 hv.1 with rfl | ⟨a1, rfl⟩ <;> rcases rr v2 hv.2 with rfl | ⟨a2, rfl⟩ <;> simp [seenByNative, N.static, N.sig, narrow]
  have hwords : operandWords (#[v1, .int i1, v2, .int i2, .int i3] : Array Value).toList = 5 := by
    rcases rr v1 hv.1 with rfl | ⟨a1, rfl⟩ <;> rcases rr v2 hv.2 with rfl | ⟨a2, rfl⟩ <;> rfl
  have hroom9 : 2 * ({ g with stack := rest } : JFrame).monitorRoom + ((({ g with stack := rest } : JFrame).stack).map fun v => v.category).sum + (nativeFrameWords "java/lang/System" "arraycopy" 5 + 11) ≤ R.locals := by
    show 2 * g.monitorRoom + (rest.map fun v => v.category).sum + (nativeFrameWords "java/lang/System" "arraycopy" 5 + 11) ≤ R.locals
    rw [hmr]
    have : nativeFrameWords "java/lang/System" "arraycopy" 5 + 11 ≤ 10240 := by decide
    omega
  obtain ⟨S, q, ce, st, XB, h1, h2, h3, h4, h5⟩ := hmk vm₁ { method := mk, args := #[v1, .int i1, v2, .int i2, .int i3], locked := none } rfl X₁
  refine ⟨S, q, ce, XB, h1, h2, h3, h4, h5, hstep₁ _ fun acts => ?_⟩
  rw [doInvoke_state]
  subst hg
  obtain ⟨g₀, hfr0⟩ := X₁.frames_eq
  obtain ⟨g₁, hfrB⟩ := XB.frames_eq
  have hU : ((T.setVm vm₁).setTop { g with stack := rest }).pushFrame (.native { method := mk, args := seenByNative methM #[v1, .int i1, v2, .int i2, .int i3], locked := none }) = (T.setVm vm₁).setFrames (.native { method := mk, args := seenByNative methM #[v1, .int i1, v2, .int i2, .int i3], locked := none } :: .java { g with stack := rest } :: below) := by
    rw [State.pushFrame, State.frames_setTop _ hfr0, State.setTop_of_frames _ hfr0, State.setFrames_setFrames]
  have hcurT : (T.setVm vm₁).cur < (T.setVm vm₁).threads.size := State.cur_lt_of_frames hfr0
  refine Steps.nativeThrowsNote (row := arraycopyRow) (cls := cls) (msg := msg) (T := id) (g := { g with stack := rest }) X₁.here [] N'.cls N'.meth N'.boot N'.native N'.noCode N'.noLock
    (by rw [N'.className, N'.name, N'.desc]; exact arraycopy_row p)
    (by rw [N'.className, N'.name, hwords]; exact X₁.notFull (g := { g with stack := rest }) hsize hfr hroom9) ?_ ?_
  · intro E hE
    rw [hU] at hE ⊢
    rw [hseen] at hE ⊢
    rw [arraycopyRow_sem]
    exact hwp vm₁ _ E X₁.warmed hE
  · rw [hU, hseen]
    show Steps p.tables e below (((T.setVm vm₁).setFrames _).pushFrame _) _
    rw [State.pushFrame, State.frames_setFrames _ hcurT, State.setFrames_setFrames]
    refine st.trans ?_
    refine Steps.throwingLeavesNative ⟨XB.here.running, XB.here.runnable, XB.here.alone⟩ (State.cur_lt_of_frames hfrB) ⟨[.java { g with stack := rest }], rfl⟩ rfl rfl ?_
    have hV : (S.setTop { g with stack := rest }).pushFrame (.throwing q) = S.setFrames (.throwing q :: .java { g with stack := rest } :: below) := by
      rw [State.pushFrame, State.frames_setTop _ hfrB, State.setTop_of_frames _ hfrB, State.setFrames_setFrames]
    rw [hV]
    exact Steps.refl _
end ZNT

def aTx (t : FieldType) (n : Nat) : String := toString (Native.java_lang_System.arraycopy.kindName t) ++ toString "[" ++ toString n ++ toString "]"
def cTx (sT dT : FieldType) : String := toString "arraycopy: type mismatch: can not copy " ++ toString (Native.java_lang_System.arraycopy.kindName sT) ++ toString "[] into " ++ toString (Native.java_lang_System.arraycopy.kindName dT) ++ toString "[]"
theorem int_print {z : Int} (h0 : 0 ≤ z) (h : z < 4294967296) : (toString z).toList.length ≤ 11 := by
  obtain ⟨n, rfl⟩ := Int.eq_ofNat_of_zero_le h0
  have := nat_print (n := n) (by omega)
  show (toString n).toList.length ≤ 11
  omega
theorem kind_len (t : FieldType) : (Native.java_lang_System.arraycopy.kindName t).toList.length ≤ 12 := by cases t <;> first | decide | (show ("object array" : String).toList.length ≤ 12; decide)
theorem arr_len (t : FieldType) {n : Nat} (h : n ≤ 40) : (aTx t n).toList.length ≤ 24 := by
  show (toString (Native.java_lang_System.arraycopy.kindName t) ++ toString "[" ++ toString n ++ toString "]").toList.length ≤ 24
  have a1 : (toString "[").toList.length = 1 := by decide
  have a2 : (toString "]").toList.length = 1 := by decide
  have a3 := nat_print (n := n) (by omega)
  have a4 : (toString (Native.java_lang_System.arraycopy.kindName t)).toList.length ≤ 12 := kind_len t
  simp only [String.toList_append, List.length_append]
  omega
theorem head_text {what : String} (h : what.toList.length ≤ 85) : (stringBytes (stringToUtf16 ("arraycopy: " ++ what))).size ≤ 400 ∧ (("arraycopy: " ++ what) == notModelled) = false := by
  constructor
  · have b1 := stringBytes_size_le (stringToUtf16 ("arraycopy: " ++ what))
    have b2 := utf16_size_le ("arraycopy: " ++ what)
    have b3 : ("arraycopy: " ++ what).toList.length ≤ 96 := by
      have a1 : ("arraycopy: ").toList.length = 11 := by decide
      rw [String.toList_append, List.length_append]; omega
    omega
  · rw [beq_eq_false_iff_ne]
    intro h9
    have h2 := congrArg String.toList h9
    have h4 : notModelled.toList = '\u0000' :: " a message that is not modelled".toList := by decide
    rw [String.toList_append, h4, show ("arraycopy: ").toList = 'a' :: "rraycopy: ".toList from by decide] at h2
    simp at h2
theorem fault_len {sT dT : FieldType} {n0 n1 : Nat} {i j n : Int32} {what : String} (h0 : n0 ≤ 40) (h1 : n1 ≤ 40) (h : copyFault sT dT n0 n1 i j n = some what) : what.toList.length ≤ 85 := by
  have k1 : (toString " out of bounds for ").toList.length = 19 := by decide
  have q1 := arr_len sT h0
  have q2 := arr_len dT h1
  have r1 := int32_print i
  have r2 := int32_print j
  have r3 := int32_print n
  unfold copyFault at h
  split at h
  · cases h
    show (toString "source index " ++ toString i ++ toString " out of bounds for " ++ toString (aTx sT n0)).toList.length ≤ 85
    have k2 : (toString "source index ").toList.length = 13 := by decide
    simp only [String.toList_append, List.length_append, k1, k2]
    have q1' : (toString (aTx sT n0)).toList.length ≤ 24 := q1
    omega
  split at h
  · cases h
    show (toString "destination index " ++ toString j ++ toString " out of bounds for " ++ toString (aTx dT n1)).toList.length ≤ 85
    have k2 : (toString "destination index ").toList.length = 18 := by decide
    simp only [String.toList_append, List.length_append, k1, k2]
    have q2' : (toString (aTx dT n1)).toList.length ≤ 24 := q2
    omega
  split at h
  · cases h
    show (toString "length " ++ toString n ++ toString " is negative").toList.length ≤ 85
    have k2 : (toString "length ").toList.length = 7 := by decide
    have k3 : (toString " is negative").toList.length = 12 := by decide
    simp only [String.toList_append, List.length_append, k2, k3]
    omega
  rename_i g1 g2 g3
  have nn : ∀ z : Int32, ¬ z < 0 → 0 ≤ z.toInt ∧ z.toInt < 2147483648 := fun z hz => by
    have h5 := Int32.le_iff_toInt_le.mp (Int32.not_lt.mp hz)
    have h6 := Int32.toInt_lt z
    simp at h5 h6
    exact ⟨h5, h6⟩
  have a1 := nn i g1
  have a2 := nn j g2
  have a3 := nn n g3
  split at h
  · cases h
    show (toString "last source index " ++ toString (i.toInt + n.toInt) ++ toString " out of bounds for " ++ toString (aTx sT n0)).toList.length ≤ 85
    have k2 : (toString "last source index ").toList.length = 18 := by decide
    have r4 := int_print (z := i.toInt + n.toInt) (by omega) (by omega)
    simp only [String.toList_append, List.length_append, k1, k2]
    have q1' : (toString (aTx sT n0)).toList.length ≤ 24 := q1
    omega
  split at h
  · cases h
    show (toString "last destination index " ++ toString (j.toInt + n.toInt) ++ toString " out of bounds for " ++ toString (aTx dT n1)).toList.length ≤ 85
    have k2 : (toString "last destination index ").toList.length = 23 := by decide
    have r4 := int_print (z := j.toInt + n.toInt) (by omega) (by omega)
    simp only [String.toList_append, List.length_append, k1, k2]
    have q2' : (toString (aTx dT n1)).toList.length ≤ 24 := q2
    omega
  · cases h
theorem fault_some {sT dT : FieldType} {n0 n1 : Nat} {i j n : Int32} (h0 : n0 ≤ 40) (h1 : n1 ≤ 40) (h : (mLies (nI n0) i n && mLies (nI n1) j n) = false) : ∃ what, copyFault sT dT n0 n1 i j n = some what := by
  unfold copyFault
  split
  · exact ⟨_, rfl⟩
  split
  · exact ⟨_, rfl⟩
  split
  · exact ⟨_, rfl⟩
  split
  · exact ⟨_, rfl⟩
  split
  · exact ⟨_, rfl⟩
  exfalso
  rename_i g1 g2 g3 g4 g5
  obtain ⟨a, ha, rfl⟩ := nI_of g1
  obtain ⟨b, hb, rfl⟩ := nI_of g2
  obtain ⟨z, hz, rfl⟩ := nI_of g3
  rw [nI_toInt (by omega), nI_toInt (by omega)] at g4 g5
  rw [it_lies h0 (by omega), it_lies h1 (by omega)] at h
  cases h
section ZCP
variable {p : Program} {l : Launch} {e : Env} {R : Room} {s : State} {m : MethodId} {args : Array Value} {below : List Frame} {meth : Method} {c : Code} {Q : State → Prop} {nL : Nat} {D : va_G} {A : Nat → Prop} {cells slots : Nat} {cc : ByteArray} {own : String} {ret : Option FieldType} {B0 : Nat} {pc : Nat} {lv lv' : List (Nat × Value)} {st : List Value} {ws ws' wc wr : List va_W} {I : Heap → List Loc → Prop}
theorem ex_as : zEx (vx_atM "java/lang/ArrayStoreException" neN) "java/lang/ArrayStoreException" := zEx.of (by decide +kernel)
theorem z_copyN (g : zG p s m args meth c cc nL own ret D B0) (hNP : NatNpe) (hA : zA s A B0) (hl : l.stackTraces = false) (hR : 9 < R.frames ∧ (st.map fun v => v.category).sum + 10240 ≤ R.locals) (hc : cells + 1 ≤ R.cells ∧ slots + 8 ≤ R.slots) {index : Nat} (qs : Cond.methodLink own index arraycopyName ∈ lw_all ∧ Cond.native arraycopyName ∈ lw_all ∧ Cond.static arraycopyName ∈ lw_all ∧ Cond.initialized "java/lang/System" ∈ lw_all) {v1 v2 : Value} {i1 i2 i3 : Int32} (hv : (v1 = .null ∧ v2.isRef = true) ∨ ((∃ a, v1 = .ref a) ∧ v2 = .null)) (d : decode cc pc = .ok (.invokestatic index, 3)) (k : (zX p l e R s m args below meth c Q nL (zI D A s ws) (cells + 1) (slots + 8) (pc) lv "java/lang/NullPointerException" (fun _ => True))) : (zJ p l e R s m args below meth c Q nL (zI D A s ws) (cells) (slots) (pc) (lv) (.int i3 :: .int i2 :: v2 :: .int i1 :: v1 :: st)) := by
  intro H locs ls hI hlv T hT X
  have hml : ls.size = c.maxLocals := hlv.1.trans g.2.2.1.symm
  have hS : va_S A s.heap T.heap locs := by rw [hT]; exact hI.2.2
  obtain ⟨S, q, ce, XB, h1, h2, h3, h4, h5, stp⟩ := vd_copyT X g.1 g.ow (g.ts _ qs.1) (g.ts _ qs.2.1) (g.ts _ qs.2.2.1) (g.ts _ qs.2.2.2) (g := F0 m pc ls (.int i3 :: .int i2 :: v2 :: .int i1 :: v1 :: st)) rfl hml rfl rfl (by show decode c.code pc = _; rw [g.2.1]; exact d) (by rcases hv with ⟨rfl, h⟩ | ⟨⟨a, rfl⟩, rfl⟩; exact ⟨rfl, h⟩; exact ⟨rfl, rfl⟩) (by omega) hR.2
    (fun vm' fs E _ hE => by
      rcases hv with ⟨rfl, h⟩ | ⟨⟨a, rfl⟩, rfl⟩
      · exact Jvm.W.arraycopy_null1 i1 i2 i3 v2 (hE _)
      · exact Jvm.W.arraycopy_null2 a i1 i2 i3 (hE _))
    (fun vm' nf hnf X' => by
      obtain ⟨S, q, ce, z1, z2, z3, z4, z5, z6, z7, -⟩ := vd_npeN (T := T.setVm vm') X' g.1 hl hNP (ex_np.at g) ex_np.2.2 (vx_Zq.narrow g.zk.us hA.2) (vx_Zq.narrow g.zk.ss hA.2) hS (g := F0 m pc ls st) rfl hml hnf (by omega) (by show 2 * 0 + (st.map fun v => v.category).sum + 10240 ≤ R.locals; omega) hc.1 hc.2
      exact ⟨S, q, ce, z1, z2, z3, z4, z5, z6, z7⟩)
  rw [hT] at h4 h5
  obtain ⟨t, a1, b1⟩ := k S.heap locs ls q ce st trivial ⟨zP_iff.mpr (fun q hq => (zP_iff.mp hI.1 q hq).kept (h5 _ (zP_iff.mp hI.1 q hq).lt)), hI.2.1, Nat.le_trans hI.2.2.1 h4, fun q g1 g2 => (h5 q (Nat.lt_of_lt_of_le g1 hI.2.2.1)).trans (hI.2.2.2.1 q g1 g2), hI.2.2.2.2⟩ hlv h1 h2 h3 S rfl XB
  exact ⟨t, stp.trans a1, b1⟩

theorem z_copyS (g : zG p s m args meth c cc nL own ret D B0) (hA : zA s A B0) (hl : l.stackTraces = false) (hR : 9 < R.frames ∧ (st.map fun v => v.category).sum + 10240 ≤ R.locals) (hc : cells + 3 ≤ R.cells ∧ slots + (400 + 10) ≤ R.slots) {index : Nat} (qs : Cond.methodLink own index arraycopyName ∈ lw_all ∧ Cond.native arraycopyName ∈ lw_all ∧ Cond.static arraycopyName ∈ lw_all ∧ Cond.initialized "java/lang/System" ∈ lw_all) (t0 t1 : Nat) {a0 a1 n0 n1 : Nat} {c0 c1 : ClassId} {f0 f1 : Nat → Int32} {sT dT : FieldType} (hm0 : (a0, .inl (c0, n0, .inl f0)) ∈ ws.flatten) (hm1 : (a1, .inl (c1, n1, .inl f1)) ∈ ws.flatten) (ht0 : (zTy D)[t0]? = some (c0, sT)) (ht1 : (zTy D)[t1]? = some (c1, dT)) (hty : ((refKind sT != refKind dT) || (!refKind sT && sT != dT)) = true) {i1 i2 i3 : Int32} (hx : (stringBytes (stringToUtf16 (cTx sT dT))).size ≤ 400 ∧ ((cTx sT dT) == notModelled) = false) (d : decode cc pc = .ok (.invokestatic index, 3)) (k : (zX p l e R s m args below meth c Q nL (zI D A s ws) (cells + 3) (slots + (400 + 10)) (pc) lv "java/lang/ArrayStoreException" (fun _ => True))) : (zJ p l e R s m args below meth c Q nL (zI D A s ws) (cells) (slots) (pc) (lv) (.int i3 :: .int i2 :: .ref a1 :: .int i1 :: .ref a0 :: st)) := by
  intro H locs ls hI hlv T hT X
  obtain ⟨q0, ha0⟩ := List.getElem?_of_mem hm0
  obtain ⟨q1, ha1⟩ := List.getElem?_of_mem hm1
  have hc0 : T.heap[a0]? = some (vp_cell c0 (n0, .inl f0)) := by rw [hT]; exact hI.1 q0 _ ha0
  have hc1 : T.heap[a1]? = some (vp_cell c1 (n1, .inl f1)) := by rw [hT]; exact hI.1 q1 _ ha1
  obtain ⟨-, k0, hk0, cm0, hkk0⟩ := (g.K.2 t0 _ ht0).1 n0 (fun j => .int (f0 j))
  obtain ⟨-, k1, hk1, cm1, hkk1⟩ := (g.K.2 t1 _ ht1).1 n1 (fun j => .int (f1 j))
  have hml : ls.size = c.maxLocals := hlv.1.trans g.2.2.1.symm
  have hS : va_S A s.heap T.heap locs := by rw [hT]; exact hI.2.2
  obtain ⟨S, q, ce, XB, h1, h2, h3, h4, h5, stp⟩ := vd_copyT X g.1 g.ow (g.ts _ qs.1) (g.ts _ qs.2.1) (g.ts _ qs.2.2.1) (g.ts _ qs.2.2.2) (g := F0 m pc ls (.int i3 :: .int i2 :: .ref a1 :: .int i1 :: .ref a0 :: st)) rfl hml rfl rfl (by show decode c.code pc = _; rw [g.2.1]; exact d) ⟨rfl, rfl⟩ (by omega) hR.2
    (fun vm' fs E hW hE => by
      obtain ⟨k0', hk0', e0⟩ := hW.alike.2.2 _ _ hk0
      obtain ⟨k1', hk1', e1⟩ := hW.alike.2.2 _ _ hk1
      exact Jvm.W.arraycopy_types (s := (T.setVm vm').setFrames fs) hc0 hc1 (fun _ h => by cases h) (fun _ h => by cases h) hk0' hk1' (sComp := cm0) (dComp := cm1) (by rw [e0]; exact hkk0) (by rw [e1]; exact hkk1) hty (hE _))
    (fun vm' nf hnf X' => by
      obtain ⟨S, q, ce, z1, z2, z3, z4, z5, z6, z7, -⟩ := vd_msgN (T := T.setVm vm') X' g.1 hl (names := neN) (by decide +kernel) (by decide +kernel) (by decide +kernel) (by decide +kernel) (ex_as.at g) ex_as.2.2 hx.2 hx.1 (by omega) (vx_Zq.narrow g.zk.us hA.2) (vx_Zq.narrow g.zk.ss hA.2) hS (g := F0 m pc ls st) rfl hml hnf (by simp only [neN, List.length]; omega) (by show 2 * 0 + (st.map fun v => v.category).sum + 10240 ≤ R.locals; omega) (by decide) hc.1 hc.2
      exact ⟨S, q, ce, z1, z2, z3, z4, z5, z6, z7⟩)
  rw [hT] at h4 h5
  obtain ⟨t, a1, b1⟩ := k S.heap locs ls q ce st trivial ⟨zP_iff.mpr (fun q hq => (zP_iff.mp hI.1 q hq).kept (h5 _ (zP_iff.mp hI.1 q hq).lt)), hI.2.1, Nat.le_trans hI.2.2.1 h4, fun q g1 g2 => (h5 q (Nat.lt_of_lt_of_le g1 hI.2.2.1)).trans (hI.2.2.2.1 q g1 g2), hI.2.2.2.2⟩ hlv h1 h2 h3 S rfl XB
  exact ⟨t, stp.trans a1, b1⟩

theorem z_copyB (g : zG p s m args meth c cc nL own ret D B0) (hA : zA s A B0) (hl : l.stackTraces = false) (hR : 9 < R.frames ∧ (st.map fun v => v.category).sum + 10240 ≤ R.locals) (hc : cells + 3 ≤ R.cells ∧ slots + (400 + 10) ≤ R.slots) {index : Nat} (qs : Cond.methodLink own index arraycopyName ∈ lw_all ∧ Cond.native arraycopyName ∈ lw_all ∧ Cond.static arraycopyName ∈ lw_all ∧ Cond.initialized "java/lang/System" ∈ lw_all) (t0 t1 : Nat) {a0 a1 n0 n1 : Nat} {c0 c1 : ClassId} {f0 f1 : Nat → Int32} {sT dT : FieldType} (hm0 : (a0, .inl (c0, n0, .inl f0)) ∈ ws.flatten) (hm1 : (a1, .inl (c1, n1, .inl f1)) ∈ ws.flatten) (ht0 : (zTy D)[t0]? = some (c0, sT)) (ht1 : (zTy D)[t1]? = some (c1, dT)) (hty : ((refKind sT != refKind dT) || (!refKind sT && sT != dT)) = false) {i1 i2 i3 : Int32} (h40 : n0 ≤ 40 ∧ n1 ≤ 40) (hno : (mLies (nI n0) i1 i3 && mLies (nI n1) i2 i3) = false) (d : decode cc pc = .ok (.invokestatic index, 3)) (k : (zX p l e R s m args below meth c Q nL (zI D A s ws) (cells + 3) (slots + (400 + 10)) (pc) lv "java/lang/ArrayIndexOutOfBoundsException" (fun _ => True))) : (zJ p l e R s m args below meth c Q nL (zI D A s ws) (cells) (slots) (pc) (lv) (.int i3 :: .int i2 :: .ref a1 :: .int i1 :: .ref a0 :: st)) := by
  intro H locs ls hI hlv T hT X
  obtain ⟨q0, ha0⟩ := List.getElem?_of_mem hm0
  obtain ⟨q1, ha1⟩ := List.getElem?_of_mem hm1
  have hc0 : T.heap[a0]? = some (vp_cell c0 (n0, .inl f0)) := by rw [hT]; exact hI.1 q0 _ ha0
  have hc1 : T.heap[a1]? = some (vp_cell c1 (n1, .inl f1)) := by rw [hT]; exact hI.1 q1 _ ha1
  obtain ⟨-, k0, hk0, cm0, hkk0⟩ := (g.K.2 t0 _ ht0).1 n0 (fun j => .int (f0 j))
  obtain ⟨-, k1, hk1, cm1, hkk1⟩ := (g.K.2 t1 _ ht1).1 n1 (fun j => .int (f1 j))
  obtain ⟨what, hf⟩ := fault_some (sT := sT) (dT := dT) h40.1 h40.2 hno
  have hx := head_text (fault_len h40.1 h40.2 hf)
  have hml : ls.size = c.maxLocals := hlv.1.trans g.2.2.1.symm
  have hS : va_S A s.heap T.heap locs := by rw [hT]; exact hI.2.2
  obtain ⟨S, q, ce, XB, h1, h2, h3, h4, h5, stp⟩ := vd_copyT X g.1 g.ow (g.ts _ qs.1) (g.ts _ qs.2.1) (g.ts _ qs.2.2.1) (g.ts _ qs.2.2.2) (g := F0 m pc ls (.int i3 :: .int i2 :: .ref a1 :: .int i1 :: .ref a0 :: st)) rfl hml rfl rfl (by show decode c.code pc = _; rw [g.2.1]; exact d) ⟨rfl, rfl⟩ (by omega) hR.2
    (fun vm' fs E hW hE => by
      obtain ⟨k0', hk0', e0⟩ := hW.alike.2.2 _ _ hk0
      obtain ⟨k1', hk1', e1⟩ := hW.alike.2.2 _ _ hk1
      exact Jvm.W.arraycopy_bounds (s := (T.setVm vm').setFrames fs) hc0 hc1 (fun _ h => by cases h) (fun _ h => by cases h) hk0' hk1' (sComp := cm0) (dComp := cm1) (by rw [e0]; exact hkk0) (by rw [e1]; exact hkk1) hty (by show copyFault sT dT (arrV c0 n0 (fun j => .int (f0 j))).slots.size (arrV c1 n1 (fun j => .int (f1 j))).slots.size i1 i2 i3 = some what; rw [arrV_size, arrV_size]; exact hf) (hE _))
    (fun vm' nf hnf X' => by
      obtain ⟨S, q, ce, z1, z2, z3, z4, z5, z6, z7, -⟩ := vd_msgN (T := T.setVm vm') X' g.1 hl (names := aiN) (by decide +kernel) (by decide +kernel) (by decide +kernel) (by decide +kernel) (ex_ai.at g) ex_ai.2.2 hx.2 hx.1 (by omega) (vx_Zq.narrow g.zk.us hA.2) (vx_Zq.narrow g.zk.ss hA.2) hS (g := F0 m pc ls st) rfl hml hnf (by simp only [aiN, List.length]; omega) (by show 2 * 0 + (st.map fun v => v.category).sum + 10240 ≤ R.locals; omega) (by decide) hc.1 hc.2
      exact ⟨S, q, ce, z1, z2, z3, z4, z5, z6, z7⟩)
  rw [hT] at h4 h5
  obtain ⟨t, a1, b1⟩ := k S.heap locs ls q ce st trivial ⟨zP_iff.mpr (fun q hq => (zP_iff.mp hI.1 q hq).kept (h5 _ (zP_iff.mp hI.1 q hq).lt)), hI.2.1, Nat.le_trans hI.2.2.1 h4, fun q g1 g2 => (h5 q (Nat.lt_of_lt_of_le g1 hI.2.2.1)).trans (hI.2.2.2.1 q g1 g2), hI.2.2.2.2⟩ hlv h1 h2 h3 S rfl XB
  exact ⟨t, stp.trans a1, b1⟩
end ZCP

