set_option maxRecDepth 100000
/-! throw new E(); DEFAULT METHODS -/
section ZT
variable {p : Program} {l : Launch} {e : Env} {R : Room} {s : State} {m : MethodId} {args : Array Value} {below : List Frame} {meth : Method} {c : Code} {H : Heap} {locs : List Loc} {cells slots : Nat} {Q : State → Prop}
variable {mc ms : Nat} {free : Addr → Prop} {A0 A1 : Nat → Prop} {H0 : Heap} {a : Array Value} {ls : Array Slot} {st0 rest : List Value}
variable {Qc : Array Value → State → Outcome → State → Prop} {XC : Addr → String → State → State → Prop}
theorem vz_throw0 {cc : ByteArray} {pc : Nat} (hexec : p.tables.exec = Jvm.exec) (hb : c.code = cc) (hl : l.stackTraces = false) {own cls : String} {names : List String} {ik ic mc ms : Nat} {A : Nat → Prop}
    (hown : s.vm.findClass own = some m.cls) (hcls : Bundle.fit cls = true) (hnames : ∀ n ∈ names, Bundle.fit n = true)
    (hk : (Cond.classLink own ik cls).before args s = true) (hini : (Cond.initialized cls).before args s = true) (hat : ∀ w ∈ vx_at0 own ic cls names, w.before args s = true)
    (hgood : ∀ w ∈ Cond.classLink own ik cls :: Cond.initialized cls :: vx_at0 own ic cls names, vx_ot w = true)
    (hU : vx_Zq Bundle.tN "UNASSIGNED_STACK" Bundle.steD A s s.heap) (hN : vx_Zq Bundle.tN "SUPPRESSED_SENTINEL" Bundle.listD A s s.heap) (hS : va_S A s.heap H locs) (hsize : ls.size = c.maxLocals)
    (d0 : decode cc pc = .ok (.new ik, 3)) (d3 : decode cc (pc + 3) = .ok (.dup, 1)) (d4 : decode cc (pc + 4) = .ok (.invokespecial ic, 3)) (d7 : decode cc (pc + 7) = .ok (.athrow, 1))
    (hout : ∀ x ∈ c.exceptionTable.toList, covers x (pc + 7) = false)
    (hRframes : names.length + 3 < R.frames) (hRlocals : (rest.map fun v => v.category).sum + (13 * (names.length + 1) + 42) ≤ R.locals) (hRcells : cells + 1 ≤ R.cells) (hRslots : slots + 6 ≤ R.slots) (hlocks : meth.locks = false)
    (hx : ∀ (q9 : Addr) (t : State), s.vm.Alike t.vm → H.size ≤ t.heap.size → (∀ q : Nat, q < H.size → t.heap[q]? = H[q]?) → XC q9 cls s t)
    (hf : ∀ z ∈ locs, free z.base) (hc : cells + 1 ≤ mc) (hs : slots + 6 ≤ ms) :
    W p l e R s m args below meth c H locs cells slots (vz_MQ below Qc XC args s mc ms free) (F0 m pc ls rest) := by
  intro T hT X
  have htr : e.platform.stackTraces = false := (show e.platform.stackTraces = l.stackTraces by rw [X.admits.platform]).trans hl
  have Y := vx_rebase X (R' := { frames := R.frames, locals := R.locals, cells := 1, slots := 6 }) (Nat.le_refl _) (Nat.le_refl _) hRcells hRslots
  obtain ⟨s', hA⟩ : ∃ z, z = (T.setVm s.vm).setFrames (.invoking m args :: below) := ⟨_, rfl⟩
  rw [← hA] at Y
  have hvm : s'.vm = s.vm := by rw [hA]; rfl
  have hhp : s'.heap = H := by rw [hA]; exact hT
  have hW0 : s.WarmedH s'.vm := by rw [hvm]; exact State.WarmedH.refl s
  have hat' : ∀ w ∈ vx_at0 own ic cls names, w.before args s' = true := fun w hw => vx_ot_at hW0 hvm.symm (hgood w (List.mem_cons_of_mem _ (List.mem_cons_of_mem _ hw))) (hat w hw)
  have hk' : (Cond.classLink own ik cls).before args s' = true := vx_ot_at hW0 hvm.symm (hgood _ List.mem_cons_self) hk
  have hini' : (Cond.initialized cls).before args s' = true := vx_ot_at hW0 hvm.symm (hgood _ (List.mem_cons_of_mem _ List.mem_cons_self)) hini
  have hU' : vx_Zq Bundle.tN "UNASSIGNED_STACK" Bundle.steD A s' s'.heap := by rw [hhp]; exact vx_Zq.moved hW0.alike (hU.kept hS.2.1)
  have hN' : vx_Zq Bundle.tN "SUPPRESSED_SENTINEL" Bundle.listD A s' s'.heap := by rw [hhp]; exact vx_Zq.moved hW0.alike (hN.kept hS.2.1)
  have h : ∀ w ∈ Bundle.ownAtoms0 own ic cls names, w.before args s' = true := vx_own hat' (vx_isRefq hU'.1) (vx_isRefq hN'.1) hU'.2.word hN'.2.word
  have hown' : s'.vm.findClass own = some m.cls := by rw [hvm]; exact hown
  have hins : (Cond.instantiable cls 6).before args s' = true := h _ (by simp [Bundle.ownAtoms0])
  obtain ⟨vm₁, cX, kX, hfX, hkX, -, -, X₁, st1⟩ := Y.newCold hexec (own := own) (C := cls) (index := ik) (n := 6) hown' hk' hins hini'
    (g := F0 m pc ls rest) rfl (by rw [hb]; exact d0) (Nat.le_refl _) (Nat.le_refl _)
  generalize hT1 : (T.setVm vm₁).pushCell { cls := cX, slots := kX.instanceTypes.map defaultValue, vm := .none } = T1 at X₁ st1
  have hcat : (Value.ref T.heap.size).category = 1 := rfl
  have hcellA : T1.heap[T.heap.size]? = some (freshCell cX kX) := by rw [← hT1]; exact State.heap_pushCell_size _ _
  have d3' : decode c.code (pc + 3) = .ok (.dup, 1) := by rw [hb]; exact d3
  obtain ⟨U, hsteps, hrun, hend, hW, hsame, ce, hce, hO⟩ := X₁.ctorThrow0 hexec htr (own := own) (cls := cls) (names := names) (ic := ic) hown' hcls hnames h (fun x hx => nomatch hx) hfX hkX hcellA (by rw [hhp, hT]; exact Nat.le_refl _)
    (g := { method := m, pc := pc + 4, locals := ls, stack := .ref T.heap.size :: .ref T.heap.size :: rest, locked := none }) rfl hsize rfl rfl (rest := rest) rfl
    (by rw [hb]; exact d4) (by rw [hb]; exact d7) hout hRframes (by simp only [List.map_cons, List.sum_cons, hcat]; omega) hlocks
  obtain ⟨f1, f2⟩ := vx_frame hsame
  rw [hhp] at f1 f2
  have hWs : s.WarmedH U.vm := State.WarmedH.trans hW0 hW
  have hcl : s.vm.findClass cls = some ce.cls := by
    have h9 := hO.cls
    rw [hvm] at h9
    exact h9
  have hall : s.sameButNew ({ U with vm := s.vm } : State) locs mc ms := by
    subst hA
    obtain ⟨e1, e2⟩ := hsame
    rw [State.setFrames_setFrames] at e1
    have h2 : (T.setVm s.vm).sameButNew ({ U with vm := s.vm } : State) [] (0 + 1) (0 + 6) := ⟨e1, e2⟩
    have h3 := X.same.trans h2
    rw [List.append_nil] at h3
    exact h3.mono hc hs
  refine ⟨U, ?_, .threw T.heap.size, hrun, hend, Or.inr ⟨T.heap.size, rfl, cls, ce, locs, hx _ U hWs.alike f1 (fun q hq => f2 q hq (fun z hz => nomatch hz)), hce, hO.vm, hcl, hWs, hall, hf⟩⟩
  refine st1 _ ?_
  show Steps p.tables e below (T1.setTop { method := m, pc := pc + 3, locals := ls, stack := .ref T.heap.size :: rest, locked := none }) _
  jvm_step X₁.here [X₁.here.top, hexec, d3', Value.category]
  exact hsteps
end ZT
section ZT2
variable {p : Program} {l : Launch} {e : Env} {R : Room} {s : State} {m : MethodId} {args : Array Value} {below : List Frame} {meth : Method} {c : Code} {Q : State → Prop} {nL : Nat} {D : va_G} {A : Nat → Prop} {cells slots : Nat} {cc : ByteArray} {own : String} {ret : Option FieldType} {B0 : Nat} {pc : Nat} {lv lv' : List (Nat × Value)} {st : List Value} {ws ws' wc wr : List va_W} {I : Heap → List Loc → Prop}
theorem z_throw0 {S : Type} {px : Addr → String → S → Prop} {wx : S → List va_W} {Qc : Array Value → State → Outcome → State → Prop} {mc ms ik ic : Nat} {cls : String} {names : List String} (g : zG p s m args meth c cc nL own ret D B0) (hA : zA s A B0) (hl : l.stackTraces = false) (hQ : Q = vz_MQ below Qc (zXC px wx D A) args s mc ms A) (ht : ∀ (pc : Nat), ∀ x ∈ c.exceptionTable.toList, covers x pc = false)
    (hf : Bundle.fit cls = true ∧ (∀ n ∈ names, Bundle.fit n = true)) (hk : Cond.classLink own ik cls ∈ lw_all) (hini : Cond.initialized cls ∈ lw_all) (hE : zEx (vx_at0 own ic cls names) cls) (u : S) (hu : ∀ q, px q cls u) (hw : wx u = ws)
    (hR : names.length + 3 < R.frames ∧ (st.map fun v => v.category).sum + (13 * (names.length + 1) + 42) ≤ R.locals) (hRc : cells + 1 ≤ R.cells ∧ slots + 6 ≤ R.slots) (hc : cells + 1 ≤ mc) (hs : slots + 6 ≤ ms)
    (d0 : decode cc pc = .ok (.new ik, 3)) (d3 : decode cc (pc + 3) = .ok (.dup, 1)) (d4 : decode cc (pc + 4) = .ok (.invokespecial ic, 3)) (d7 : decode cc (pc + 7) = .ok (.athrow, 1)) : (zJ p l e R s m args below meth c Q nL (zI D A s ws) (cells) (slots) (pc) (lv) (st)) := by
  intro H locs ls hI hlv
  subst hQ
  refine vz_throw0 g.1 g.2.1 hl g.ow hf.1 hf.2 (g.ts _ hk) (g.ts _ hini) (hE.at g) (fun w hw => ?_) (vx_Zq.narrow g.zk.us hA.2) (vx_Zq.narrow g.zk.ss hA.2) hI.2.2 (hlv.1.trans g.2.2.1.symm) d0 d3 d4 d7 (ht _) hR.1 hR.2 hRc.1 hRc.2 g.2.2.2.2.2.2.1 (fun q t _ h1 h2 => ⟨u, hu q, by rw [hw]; exact zP_iff.mpr (fun q hq => (zP_iff.mp hI.1 q hq).kept (h2 _ (zP_iff.mp hI.1 q hq).lt)), by rw [hw]; exact hI.2.1, Nat.le_trans hI.2.2.1 h1, fun q h3 h4 => (h2 q (Nat.lt_of_lt_of_le h3 hI.2.2.1)).trans (hI.2.2.2.1 q h3 h4)⟩) hI.2.2.2.2 hc hs
  rcases List.mem_cons.mp hw with rfl | hw
  · rfl
  rcases List.mem_cons.mp hw with rfl | hw
  · rfl
  exact hE.2.2 w hw
/-- a call of x on a C comes to the default y of an interface -/
def vd_lands (s : State) (C : String) (x y : MethodName) : Prop := ∃ (c : ClassId) (r m : MethodId) (rm : Method), s.vm.findClass C = some c ∧ s.methodFound? x.cls x.name x.desc = some r ∧ s.methodNamed? y = some m ∧ s.vm.method? r = some rm ∧ selectMethod {} s.vm c r = .method m ∧ (∃ mk, s.vm.classes[m.cls]? = some mk ∧ mk.isInterface = true) ∧
  ((c :: s.vm.superclasses c).any fun k => (declaredIn s.vm rm.name rm.desc k).any fun (_, z) => z.isPrivate || z.isStatic) = false
theorem vd_lands.of {a : Array Value} {s : State} {C : String} {x y : MethodName} (h : (Cond.landsInDefault C x y).before a s = true) : vd_lands s C x y := by
  simp only [Cond.before, Cond.holds, Cond.value] at h
  rcases hc : s.vm.findClass C with _ | c
  · simp [hc] at h
  rcases hr : s.methodFound? x.cls x.name x.desc with _ | r
  · simp [hc, hr] at h
  rcases hm : s.methodNamed? y with _ | m
  · simp [hc, hr, hm] at h
  rcases hq : s.vm.method? r with _ | rm
  · simp [hc, hr, hm, hq] at h
  simp only [hc, hr, hm, hq, Option.map_some, beq_iff_eq, Option.some.injEq] at h
  split at h
  · rename_i m' hsel
    simp only [Bool.and_eq_true, decide_eq_true_eq, Bool.not_eq_true', Option.any_eq_true] at h
    obtain ⟨⟨⟨⟨rfl, mk, hmk, hi⟩, -⟩, hway⟩, -⟩ := h
    exact ⟨c, r, m', rm, hc, hr, hm, hq, hsel, ⟨mk, hmk, hi⟩, hway⟩
  · cases h
theorem vd_lands.moved {s U : State} {C : String} {x y : MethodName} (h : s.vm.Alike U.vm) (hL : vd_lands s C x y) : vd_lands U C x y := by
  obtain ⟨c, r, m, rm, h1, h2, h3, h4, h5, ⟨mk, h6, h7⟩, h8⟩ := hL
  obtain ⟨mk', h9, h10⟩ := h.2.2 _ _ h6
  refine ⟨c, r, m, rm, by rw [h.findClass]; exact h1, ?_, ?_, by rw [h.method?]; exact h4, by rw [h.selectMethod]; exact h5, ⟨mk', h9, by rw [h10]; exact h7⟩, by simp only [h.superclasses, h.declaredIn]; exact h8⟩
  · exact (State.methodFound?_setVm h x.cls x.name x.desc).trans h2
  · exact (State.methodNamed?_setVm h y).trans h3
theorem zK.lands {s : State} (k : zK B0 D s) {C : String} {x y : MethodName} (h : ∀ (a : Array Value) (U : State), (Jvm.Cond.and given_1 narrow_1).before a U = true → (Cond.landsInDefault C x y).before a U = true) : vd_lands s C x y := by
  obtain ⟨U0, b, h1, h2, -⟩ := k.2.2.2
  exact vd_lands.moved h2.alike (vd_lands.of (h _ _ h1.2.2.1))
end ZT2

section ZUN
/-- a callee whose class may not be initialised (a default of an interface): as Met, but for that -/
def vd_Met (l : Launch) (y : MethodName) (ws : List Cond) (rm : Room) (Pc : Array Value → State → Prop) (Qc : Array Value → State → Outcome → State → Prop) (mc ms : Nat) (free : Addr → Prop) : Prop :=
  ∀ (p : Program) (e : Env), l.admits e → FairCas e.choices → FairClock e.choices → ∀ (s : State) (m : MethodId) (args : Array Value) (below : List Frame), s.frames = .invoking m args :: below → s.status = .running → s.curStatus? = some .runnable → s.alone = true → s.methodNamed? y = some m → s.hears m below = true → s.hasRoom e.platform rm = true → (∀ w ∈ ws, w.before args s = true) → Pc args s →
    ∃ n o, (∀ k, k < n → Within (stepsAlone p.tables e k s) below) ∧ (stepsAlone p.tables e n s).status = .running ∧ Ended (stepsAlone p.tables e n s) below o ∧ Qc args s o (stepsAlone p.tables e n s) ∧ ∃ L, FrameEnd s o (stepsAlone p.tables e n s) L mc ms ∧ ∀ q ∈ L, free q.base
theorem vd_ofW {l : Launch} {y : MethodName} {cc : ByteArray} {maxL : Nat} {ret : Option FieldType} {ws ws' : List Cond} {rm : Room} {Pc : Array Value → State → Prop} {Qc : Array Value → State → Outcome → State → Prop} {mc ms : Nat} {free : Addr → Prop} (hy : plainName y.cls = true) (hw : ws = Cond.code y cc maxL ret :: ws')
    (body : ∀ p e s m args below meth c, p.tables.exec = Jvm.exec → s.methodNamed? y = some m → s.vm.method? m = some meth → c.code = cc → c.maxLocals = maxL → meth.sig.returnType = ret → meth.locks = false → (∀ w ∈ ws, w.before args s = true) → Pc args s → W p l e rm s m args below meth c s.heap [] 0 0 (MQ below Qc args s mc ms free) (entryFrame m args maxL)) :
    vd_Met l y ws rm Pc Qc mc ms free := by
  intro p e ha hc hk s m args below hf hrun hable halone hname hhears hroom hpre hv
  obtain ⟨meth, c, hmeth, hcode, hbytes, hlocals, hret, hlocks, -, -⟩ := Cond.code_spec hname (hpre (Cond.code y cc maxL ret) (by rw [hw]; exact List.mem_cons_self))
  have hcur := State.cur_lt_of_frames hf
  have hf1 : (s.setFrames (.java (entryFrame m args maxL) :: below)).frames = .java (entryFrame m args maxL) :: below := State.frames_setFrames _ hcur
  have ht1 := State.topJava?_of_frames hf1
  have hplain : (s.setFrames (.java (entryFrame m args maxL) :: below)).plainMethod m := State.plainMethod.of_named (s := s) (plainFor_of_name hy) hname hmeth
  have hAt : At (s.setFrames (.java (entryFrame m args maxL) :: below)) m c below :=
    ⟨by rw [ht1]; rfl, ⟨[], by rw [hf1]; rfl⟩, hrun, by simpa using hable, by simpa using halone, by rw [State.code?_eq]; simp [State.setFrames, hmeth, hcode], hplain⟩
  have hstep : (stepThread p.tables e s).1 = (s.setFrames (.java (entryFrame m args maxL) :: below)).setTop (entryFrame m args maxL) := by
    have hfull : e.platform.stackFull (s.setFrames below).me (s.setFrames below).frames c.maxLocals = false := by
      obtain ⟨-, h1, -, h2⟩ := State.hasRoom_stack hroom
      rw [hf, List.length_cons] at h1
      rw [State.localsInUse_invoking hf hmeth hcode] at h2
      have hw := stackUse_le_stackWeight below
      rw [State.frames_setFrames _ hcur]
      exact Platform.stackFull_eq_false (by rw [State.stackLimits_setFrames]; omega) (by rw [State.stackLimits_setFrames]; omega)
    rw [stepThread_invoking hf, (doInvoke_java (s := s.setFrames below) (e := e) (meth := meth) (code := c) hmeth hcode hlocks hfull).1, State.setTop_self ht1]
    simp only [State.pushFrame, State.frames_setFrames _ hcur, State.setFrames_setFrames, hlocals, entryFrame]
  obtain ⟨t0, ht0, -⟩ := State.frames_cons hf
  have X : Stand p l e rm s m args below meth c (s.setFrames (.java (entryFrame m args maxL) :: below)) [] 0 0 := by
    refine ⟨ha, hc, hk, hf, hroom, hhears, hmeth, hcode, hAt, by rw [hf1]; rfl, State.WarmedH.refl s, by rw [State.stackLimits_setFrames], by rw [State.stackBytes_setFrames], ?_⟩
    exact (State.sameButNew.refl s ht0).setFrames (.java (entryFrame m args maxL) :: below) hcur
  obtain ⟨t, hs, o, hr, he, hp⟩ := body p e s m args below meth c (by cases p <;> rfl) hname hmeth hbytes hlocals hret hlocks hpre hv (s.setFrames (.java (entryFrame m args maxL) :: below)) rfl X
  obtain ⟨n, hn, hwn⟩ := Steps.head (tb := p.tables) (e := e) ⟨hrun, hable, halone⟩ ⟨[.invoking m args], hf, by simp, by simp⟩ (hstep ▸ hs)
  exact ⟨n, o, hwn, hn ▸ hr, hn ▸ he, by rw [hn]; exact hp⟩
variable {l : Launch} {R : Room} {p : Program} {e : Env} {below : List Frame} {s : State} {sargs : Array Value} {y : MethodName} {len W : Nat}
theorem vd_back {ws : List Cond} {rm : Room} {Pc : Array Value → State → Prop} {Qc : Array Value → State → Outcome → State → Prop} {mc ms : Nat} {free : Addr → Prop} {bytes : ByteArray} {maxL : Nat} {ret : Option FieldType}
    (hM : vd_Met l y ws rm Pc Qc mc ms free) (hblind : FrameBlind Pc) (hrc : rm.cells = mc) (hrs : rm.slots = ms) (hframes : rm.frames + 1 ≤ R.frames) (hlocals : W + (maxL + 11) + rm.locals ≤ R.locals)
    (hws : ∀ w ∈ ws, ∀ (a' : Array Value) (U : State), s.WarmedH U.vm → w.before a' U = true) (hcode : Cond.code y bytes maxL ret ∈ ws) : Back l R p e below s sargs y len W (PreOf R mc ms Pc) (PostOf Qc mc ms free) := by
  intro m meth c A g ig mk a X hg hsize hdg hW hn hp
  obtain ⟨U, Ls, c0, s0⟩ := A
  dsimp only [Pt.U, Pt.locs, Pt.cells, Pt.slots] at X hn hp ⊢
  have h2 : (Cond.code y bytes maxL ret).before a U = true := hws _ hcode _ _ X.warmed
  obtain ⟨methY, cY, hmY, hcY, -, hlY, -, -, -, -⟩ := Cond.code_spec hn h2
  have h : At U g.method c below := by rw [hg]; exact X.here
  have hroom : (U.calling g mk a).hasRoom e.platform rm = true := X.room_calling (g := g) (R' := rm) hsize hmY hcY hframes (by rw [hlY]; omega) (by rw [hrc]; exact hp.1) (by rw [hrs]; exact hp.2.1)
  have hPc : Pc a (U.calling g mk a) := hblind _ _ _ _ hp.2.2
  have hcode9 : (U.calling g mk a).code? g.method = some c := by
    have := h.code
    rw [State.code?_eq] at this ⊢
    simpa [State.calling, State.pushFrame, State.setFrames] using this
  obtain ⟨mid, hmid⟩ := h.above
  have hf' : (U.calling g mk a).frames = .invoking mk a :: (U.setTop g).frames := by rw [State.frames_calling h.top g mk a, State.frames_setTop' g h.top]
  have hrunC : (U.calling g mk a).status = .running := h.running
  have hableC : (U.calling g mk a).curStatus? = some .runnable := by simpa [State.calling] using h.runnable
  have haloneC : (U.calling g mk a).alone = true := by simpa [State.calling] using h.alone
  have hhears : (U.calling g mk a).hears mk (U.setTop g).frames = true := by rw [State.frames_setTop' g h.top]; simp [State.hears, hcode9, hdg, Except.toOption]
  obtain ⟨n, o, hw, hr, he, hq, L, hfe, hL⟩ := hM p e X.admits X.cas X.clock (U.calling g mk a) mk a (U.setTop g).frames hf' hrunC hableC haloneC hn hhears hroom (fun w hw => hws w hw _ _ X.warmed) hPc
  have hstep : (stepThread p.tables e (U.calling g mk a)).1 = (doInvoke e (U.setTop g) [] mk a).1 := by
    obtain ⟨t, ht⟩ : ∃ t, (U.setTop g).threads[(U.setTop g).cur]? = some t := by
      obtain ⟨t, ht, -⟩ := State.frames_cons (s := U.setTop g) (by rw [State.frames_setTop' g h.top])
      exact ⟨t, ht⟩
    have hf9 : ((U.setTop g).pushFrame (.invoking mk a)).frames = .invoking mk a :: (U.setTop g).frames := hf'
    show (stepThread p.tables e ((U.setTop g).pushFrame (.invoking mk a))).1 = _
    rw [stepThread_invoking hf9, doInvoke_state e (U.setTop g) [], State.pushFrame, State.setFrames_setFrames, State.setFrames_self ht]
  have hfr : (U.setTop g).frames = (.java g :: mid) ++ below := by rw [State.frames_setTop' g h.top, hmid]; rfl
  have hgo : (U.calling g mk a).goesOn := ⟨hrunC, hableC, haloneC⟩
  obtain ⟨s₂, hsteps, hend, hq', hfe'⟩ : ∃ s₂, Steps p.tables e below (doInvoke e (U.setTop g) [] mk a).1 s₂ ∧ Ended s₂ (U.setTop g).frames o ∧ Qc a (U.calling g mk a) o s₂ ∧ FrameEnd (U.calling g mk a) o s₂ L mc ms := by
    cases n with
    | zero => exact absurd ⟨[.invoking mk a], hf', by simp, by simp⟩ he.not_within
    | succ k =>
      rw [stepsAlone_succ _ hgo, hstep] at hr he hq hfe
      refine ⟨_, ⟨k, rfl, fun j hj => ?_⟩, he, hq, hfe⟩
      have := hw (j + 1) (by omega)
      rw [stepsAlone_succ _ hgo, hstep, hfr] at this
      exact this.weaken
  rw [State.frames_setTop' g h.top] at hend
  obtain ⟨⟨v, rfl⟩, hW₂, e2, q2, q3, q4, q5, q6⟩ := id hfe'
  have e3 : s₂ = ({ (U.calling g mk a).setFrames s₂.frames with heap := s₂.heap, slotsUsed := s₂.slotsUsed } : State).setVm s₂.vm := by
    have : s₂ = ({ s₂ with vm := (U.calling g mk a).vm } : State).setVm s₂.vm := rfl
    rw [e2] at this
    exact this
  obtain ⟨c₂, i₂, len₂, hc₂, hd₂, hf₂⟩ := hend
  have hW' : U.WarmedH s₂.vm := hW₂
  have hcc : c₂ = c := by
    have h1 : s₂.code? g.method = U.code? g.method := by rw [State.code?_eq, State.code?_eq, hW'.alike.method?]
    exact Option.some.inj (hc₂.symm.trans (h1.trans h.code))
  subst hcc
  have hlen : len₂ = len := by rw [hdg] at hd₂; cases hd₂; rfl
  subst hlen
  obtain ⟨g₀, hg0⟩ := Option.isSome_iff_exists.mp h.top
  obtain ⟨r, hr0⟩ := State.topJava?_eq_some.mp hg0
  have hs₂ : s₂ = (({ U with heap := s₂.heap, slotsUsed := s₂.slotsUsed } : State).setVm s₂.vm).setTop { g with pc := g.pc + len₂, stack := v.toList ++ g.stack } := by
    have hr' : (({ U with heap := s₂.heap, slotsUsed := s₂.slotsUsed } : State).setVm s₂.vm).frames = .java g₀ :: r := hr0
    refine e3.trans ?_
    rw [hf₂, State.calling_eq h.top, State.setFrames_setFrames, State.setTop_of_frames _ hr', hr0]
    rfl
  have hsame : U.sameButNew ({ U with heap := s₂.heap, slotsUsed := s₂.slotsUsed } : State) L mc ms := by
    refine ⟨?_, q2, q3, q4, q5, q6⟩
    obtain ⟨t, ht, -⟩ := State.frames_cons hr0
    show ({ U with heap := s₂.heap, slotsUsed := s₂.slotsUsed } : State) = { U.setFrames U.frames with heap := s₂.heap, slotsUsed := s₂.slotsUsed }
    rw [State.setFrames_self ht]
  subst hg
  refine ⟨v, ⟨(({ U with heap := s₂.heap, slotsUsed := s₂.slotsUsed } : State).setVm s₂.vm), Ls ++ L, c0 + mc, s0 + ms⟩,
    ⟨X.admits, X.cas, X.clock, X.frames, X.room, X.hears, X.method, X.code, (X.here.setHeapUsed s₂.heap s₂.slotsUsed).setVm hW'.alike, X.tail, State.WarmedH.trans X.warmed hW', X.limits, X.bytes, X.same.trans (hsame.setVm s.vm)⟩,
    ⟨g, mk, s₂, L, rfl, rfl, hq', rfl, hL, rfl, rfl⟩, ?_⟩
  show Steps p.tables e below _ ((({ U with heap := s₂.heap, slotsUsed := s₂.slotsUsed } : State).setVm s₂.vm).setTop { g with pc := g.pc + len₂, stack := v.toList ++ g.stack })
  rw [← hs₂]
  exact hsteps
end ZUN
section ZUE
variable {p : Program} {l : Launch} {e : Env} {R : Room} {s : State} {m : MethodId} {args : Array Value} {below : List Frame} {meth : Method} {c : Code} {Q : State → Prop} {nL : Nat} {D : va_G} {A : Nat → Prop} {cells slots : Nat} {cc : ByteArray} {own : String} {ret : Option FieldType} {B0 : Nat} {pc : Nat} {lv lv' : List (Nat × Value)} {st : List Value} {ws ws' wc wr : List va_W} {I : Heap → List Loc → Prop}
theorem z_entryU {y : MethodName} {rm : Room} {av : List Value} {w0 : List va_W} {Qc : Array Value → State → Outcome → State → Prop} {mc ms : Nat} (hy : plainName y.cls = true) (hav : (lg_sl av).length ≤ nL)
    (body : ∀ p e s m args below meth c Q, Q = MQ below Qc args s mc ms A → zG p s m args meth c cc nL y.cls ret D B0 → zA s A B0 → meth.name = y.name → zJ p l e rm s m args below meth c Q nL (zI D A s w0) 0 0 0 (lv_args 0 av) []) :
    vd_Met l y (ws_ y cc nL ret) rm (va_Pc av (zPre B0 D A w0)) Qc mc ms A := by
  refine vd_ofW (cc := cc) (maxL := nL) (ret := ret) hy rfl ?_
  intro p e s m args below meth c hx hname hmeth hb hml hr hlk hpre hv
  obtain ⟨rfl, hK, hP, hD, hA1, hA2⟩ := hv
  have hts : ∀ w ∈ lw_all, w.before _ s = true := fun w h => hpre w (List.mem_cons_of_mem _ h)
  rw [lg_entry_eq]
  exact body p e s m _ below meth c _ rfl ⟨hx, hb, hml, findClass_of_methodNamed hname, hts, hr, hlk, hK⟩ ⟨hA1, hA2⟩ (name_of_methodNamed hname hmeth).1 s.heap [] _ ⟨hP, hD, va_S.rf⟩ (lv_entry av hav)
theorem z_entryUo {y : MethodName} {rm : Room} {av : List Value} {w0 : List va_W} {Qc : Array Value → State → Outcome → State → Prop} (hy : plainName y.cls = true) (hav : (lg_sl av).length ≤ nL)
    (body : ∀ p e s m args below meth c Q, Q = MQ below Qc args s 0 0 (fun _ => False) → zG p s m args meth c cc nL y.cls ret D B0 → zJ p l e rm s m args below meth c Q nL (zIo D s w0) 0 0 0 (lv_args 0 av) []) :
    vd_Met l y (ws_ y cc nL ret) rm (va_Pc av (zPreO B0 D w0)) Qc 0 0 (fun _ => False) := by
  refine vd_ofW (cc := cc) (maxL := nL) (ret := ret) hy rfl ?_
  intro p e s m args below meth c hx hname hmeth hb hml hr hlk hpre hv
  obtain ⟨rfl, hK, hP⟩ := hv
  have hts : ∀ w ∈ lw_all, w.before _ s = true := fun w h => hpre w (List.mem_cons_of_mem _ h)
  rw [lg_entry_eq]
  exact body p e s m _ below meth c _ rfl ⟨hx, hb, hml, findClass_of_methodNamed hname, hts, hr, hlk, hK⟩ s.heap [] _ ⟨hP, rfl, rfl⟩ (lv_entry av hav)
end ZUE
section ZFD
variable {p : Program} {l : Launch} {e : Env} {R : Room} {s : State} {m : MethodId} {args : Array Value} {below : List Frame} {meth : Method} {c : Code} {H : Heap} {locs : List Loc} {cells slots : Nat}
theorem vd_callIF {T : State} (X : Stand p l e R s m args below meth c T locs cells slots) (hexec : p.tables.exec = Jvm.exec) {own C : String} {index count : Nat} {x y : MethodName} {bytes : ByteArray} {maxL : Nat} {ret : Option FieldType}
    (hown : s.vm.findClass own = some m.cls) (hlink : (Cond.methodLink own index x).before args s = true) (hdecl : (Cond.declares x).before args s = true) (hface : (Cond.interfaceMethod x.cls x.cls x.name x.desc).before args s = true)
    (hsel : vd_lands s C x y) (hinst : (Cond.instanceMethod y).before args s = true) (hpub : (Cond.publicMethod y).before args s = true)
    (hcast : (Cond.castable C x.cls).before args s = true) (hcode : (Cond.code y bytes maxL ret).before args s = true) (hx : x.cls ≠ "java/lang/invoke/MethodHandle" ∧ x.cls ≠ "java/lang/invoke/VarHandle")
    {W : Nat} {Pre : Pt → Array Value → Prop} {Post : Pt → Array Value → Option Value → Pt → Prop} (hK : Back l R p e below s args y 5 W Pre Post)
    {b : Addr} {cellB : Cell} {kB : Class} (hcell : T.heap[b]? = some cellB) (hobj : cellB.vm.isStatics = false) (hcls : s.vm.findClass C = some cellB.cls) (hkB : s.vm.classes[cellB.cls]? = some kB)
    {g : JFrame} (hg : g.method = m) (hsize : g.locals.size = c.maxLocals) {argsL rest : List Value} (hlen : ∀ sig, parseMethodDescriptor x.desc = some sig → argsL.length = sig.parameters.length)
    (hstack : g.stack = argsL.reverse ++ .ref b :: rest) (hW : 2 * g.monitorRoom + (rest.map fun v => v.category).sum ≤ W) (hdg : decode c.code g.pc = .ok (.invokeinterface index count, 5))
    (hpre : ∀ vm₁, s.WarmedH vm₁ → Pre ⟨T.setVm vm₁, locs, cells, slots⟩ (Value.ref b :: argsL).toArray) :
    ∃ (v : Option Value) (vm₁ : Vm) (B : Pt), s.WarmedH vm₁ ∧ Stand p l e R s m args below meth c B.U B.locs B.cells B.slots ∧ Post ⟨T.setVm vm₁, locs, cells, slots⟩ (Value.ref b :: argsL).toArray v B ∧
      ∀ target, Steps p.tables e below (B.U.setTop { g with pc := g.pc + 5, stack := v.toList ++ rest }) target → Steps p.tables e below (T.setTop g) target := by
  obtain ⟨r0, r, hn, hrm, hstR, hsigR⟩ := Cond.declares_spec hdecl
  obtain ⟨cL, kL, r1, hcL, hkL, hiL, hfoundL, hn1⟩ := Cond.interfaceMethod_spec hface
  cases hn.symm.trans hn1
  have hr0cls : r0.cls = cL := Option.some.inj ((findClass_of_methodNamed hn).symm.trans hcL)
  obtain ⟨hnameR, hdescR⟩ := name_of_methodNamed hn hrm
  obtain ⟨mk, methM, hnamed, hmethM, -, habM⟩ := Cond.instanceMethod_spec hinst
  obtain ⟨c2, r2, m2, rm2, q1, q2, q3, q5, q4, -, q6⟩ := hsel
  cases hcls.symm.trans q1
  cases hfoundL.symm.trans q2
  cases hnamed.symm.trans q3
  cases hrm.symm.trans q5
  have hselP : selectMethod e.platform s.vm cellB.cls r0 = .method mk := by rw [Launch.admits_selectMethod X.admits]; exact q4
  have hpubM : hasFlag methM.accessFlags Acc.public_ = true := Cond.publicMethod_spec hnamed hmethM hpub
  have hway : ((cellB.cls :: s.vm.superclasses cellB.cls).any fun k => (declaredIn s.vm r.name r.desc k).any fun (_, z) => z.isPrivate || z.isStatic) = false := by
    exact q6
  obtain ⟨c3, t3, w1, w2, w3⟩ := Cond.castable_spec hcast
  cases hcls.symm.trans w1
  cases hcL.symm.trans w2
  obtain ⟨vm₁, X₁, hstep₁⟩ := X.invokeinterface hexec hown hlink hn hrm hstR (by rw [hr0cls]; exact hkL) hiL hx (a := b) (cell := cellB) (kcell := kB) hcell
    (fun z h => by rw [h] at hobj; cases hobj) hkB (by rw [hr0cls]; exact w3) hselP hmethM hway hpubM habM (g := g) hg (argsL := argsL) (rest := rest) (hlen _ hsigR) hstack hdg
  obtain ⟨v, B, X', hpost, hsteps⟩ := hK m meth c ⟨T.setVm vm₁, locs, cells, slots⟩ { g with stack := rest } (.invokeinterface index count) mk (Value.ref b :: argsL).toArray X₁ hg hsize hdg hW (X₁.named hnamed) (hpre vm₁ X₁.warmed)
  exact ⟨v, vm₁, B, X₁.warmed, X', hpost, fun target h => hstep₁ _ fun acts => by rw [doInvoke_state]; exact hsteps.trans h⟩
theorem vd_runF {x y : MethodName} {bytes cc : ByteArray} {maxL nL mc ms n index count : Nat} {ret : Option FieldType} {ws : List Cond} {rm : Room} {Pc : Array Value → State → Prop} {Qc : Array Value → State → Outcome → State → Prop} {free : Addr → Prop} {Ts : List Cond} {own C : String} {cC : ClassId} {b : Addr} {As rest : List Value} {g : JFrame}
    (hat : ClassAt s C cC) (S : CallFix p m c cc nL s args Ts own) (hM : vd_Met l y ws rm Pc Qc mc ms free) (hbk : rm.cells = mc ∧ rm.slots = ms ∧ rm.frames + 1 ≤ R.frames ∧ 8 + (maxL + 11) + rm.locals ≤ R.locals ∧ (∀ w ∈ ws, ∀ (a' : Array Value) (U : State), s.WarmedH U.vm → w.before a' U = true) ∧ Cond.code y bytes maxL ret ∈ ws)
    (hlink : (Cond.methodLink own index x).before args s = true) (hdecl : (Cond.declares x).before args s = true) (hface : (Cond.interfaceMethod x.cls x.cls x.name x.desc).before args s = true) (hsel : vd_lands s C x y) (hinst : (Cond.instanceMethod y).before args s = true) (hpub : (Cond.publicMethod y).before args s = true) (hcast : (Cond.castable C x.cls).before args s = true)
    (hx : x.cls ≠ "java/lang/invoke/MethodHandle" ∧ x.cls ≠ "java/lang/invoke/VarHandle") (hlen : ∀ sig, parseMethodDescriptor x.desc = some sig → n = sig.parameters.length) (hp : PreV s H C b Pc As)
    (hg : g.method = m) (hn : As.length = n) (hsize : g.locals.size = nL) (hstack : g.stack = As.reverse ++ .ref b :: rest) (hW : 2 * g.monitorRoom + (rest.map fun v => v.category).sum ≤ 8) (hdg : decode cc g.pc = .ok (.invokeinterface index count, 5)) (hf : cells + mc ≤ R.cells ∧ slots + ms ≤ R.slots) :
    va_Run5 p l e R s m args below meth c H locs cells slots mc ms g rest (Qc (Value.ref b :: As).toArray) (free) := by
  obtain ⟨hrc, hrs, hfr, hlo, hws, hcw⟩ := hbk
  have hK : Back l R p e below s args y 5 8 (PreOf R mc ms Pc) (PostOf Qc mc ms free) := vd_back (bytes := bytes) (maxL := maxL) (ret := ret) hM hp.1 hrc hrs hfr hlo hws hcw
  obtain ⟨hx0, hb, hml, ho, -⟩ := S
  obtain ⟨-, ⟨cellB, hcB, hoB, hclB⟩, hPc⟩ := hp
  obtain ⟨hfc, kB, hkB, -⟩ := hat
  cases hfc.symm.trans hclB
  have hcode9 : (Cond.code y bytes maxL ret).before args s = true := hws _ hcw _ _ (State.WarmedH.refl s)
  intro T hT X
  obtain ⟨v, vm₁, ⟨U', l2, c2, s2⟩, hW₁, X', ⟨g', mk, t, L, e1, e2, hq, h1, hL, h2, h3⟩, st⟩ := vd_callIF X hx0 (C := C) (bytes := bytes) (maxL := maxL) (ret := ret) ho hlink hdecl hface hsel hinst hpub hcast hcode9 hx hK (by rw [hT]; exact hcB) hoB hclB hkB hg (hsize.trans hml.symm) (argsL := As) (rest := rest) (fun sig h => hn.trans (hlen sig h)) hstack hW (by rw [hb]; exact hdg)
    (fun vm₁ hW₁ => ⟨hf.1, hf.2, hPc (T.setVm vm₁) hT hW₁⟩)
  dsimp only [Pt.U, Pt.locs, Pt.cells, Pt.slots] at X' e1 e2 h1 h2 h3 st
  subst h1; subst h2; subst h3
  exact ⟨v, (T.setVm vm₁).calling g' mk (Value.ref b :: As).toArray, t, U', L, hT, X', hL, e1, e2, hq, st⟩
end ZFD

section ZSF
variable {Q : Unit → Pre} {E : CtlPost} {e : Env} {d : Bool} {acts : List Action} {s : State} {f : JFrame}
theorem vd_readyI {index ci a : Nat} {nt : Nat} {m : MethodId} {named : ClassId} {ck nk mk : Class} {cf : ClassFile} {r : Method} {args rest : List Value} {cell : Cell} {kcell : Class}
    (hs : s.topJava?.isSome) (hr : s.vm.methodReady f.method.cls index m) (hrm : s.vm.method? m = some r)
    (hck : s.vm.classes[f.method.cls]? = some ck) (hcf : ck.cf = some cf) (hc : cf.constantPool[index]? = some (.methodref ci nt) ∨ cf.constantPool[index]? = some (.interfaceMethodref ci nt))
    (hnamed : s.vm.classReady f.method.cls ci named) (hnk : s.vm.classes[named]? = some nk)
    (hinit : (r.name == "<init>" && m.cls != named) = false) (hstatic : r.isStatic = false)
    (hfound : lookupSpecial s.vm (if r.name != "<init>" && !nk.isInterface && (named != f.method.cls && s.vm.isSubclass f.method.cls named) then ck.super.getD named else named) r.name r.desc = .method m)
    (hni : ck.isInterface = false) (hmk : s.vm.classes[m.cls]? = some mk) (habs : r.isAbstract = false)
    (hlen : args.length = r.sig.parameters.length) (hstack : f.stack = args.reverse ++ .ref a :: rest)
    (hcell : s.heap[a]? = some cell) (hobj : ∀ c, cell.vm ≠ .statics c) (hkcell : s.vm.classes[cell.cls]? = some kcell) :
    wp (invokespecial.sem index) Q E e d acts (s.setTop f) ↔ E (.invoke m (.ref a :: args).toArray) acts (s.setTop { f with stack := rest }) := by
  rcases hc with hc | hc
  · exact invokespecial.wp_ready hs hr hrm hck hcf hc hnamed hnk hinit hstatic hfound rfl (Or.inr (Or.inl hni)) hrm hmk habs hlen hstack hcell hobj hkcell
  simp only [invokespecial.sem, wp_bind', W.resolveMethodAt_ready (State.method?_setTop f hs) hr]
  simp only [W.theMethod, State.vm_setTop, hrm, Option.some.injEq, exists_eq_left', Jvm.refClassAt, Jvm.constantAt, wp_bind', W.currentClass, W.theClass,
    State.method?_setTop f hs, hck, hcf, Option.bind_some, hc, wp_pure', W.resolveClassAt_ready (State.method?_setTop f hs) hnamed]
  simp only [W.ite, hinit, hstatic, Bool.false_eq_true, if_false, wp_bind', W.theClass, State.vm_setTop, hck, hnk, Option.some.injEq, exists_eq_left', W.look, hfound,
    bne_self_eq_false, wp_pure', Jvm.popArgs, ← hlen, popN_top hs hstack]
  simp [hni] at hfound
  simp [hs, hcell, hobj, hkcell, hck, hni, hrm, habs, hmk, hfound, popN_top hs hstack]
end ZSF
section ZSG
variable {p : Program} {l : Launch} {e : Env} {R : Room} {s : State} {m : MethodId} {args : Array Value} {below : List Frame} {meth : Method} {c : Code}
theorem vd_callSF {T : State} {locs : List Loc} {cells slots : Nat} (X : Stand p l e R s m args below meth c T locs cells slots) (hexec : p.tables.exec = Jvm.exec) {own sup : String} {index : Nat} {y : MethodName} {bytes : ByteArray} {maxL : Nat} {ret : Option FieldType}
    (hown : s.vm.findClass own = some m.cls) (hlink : (Cond.methodLink own index y).before args s = true) (hface : (Cond.interfaceMethod y.cls y.cls y.name y.desc).before args s = true) (hsup : (Cond.superclass own sup).before args s = true)
    (hinst : (Cond.instanceMethod y).before args s = true) (hcode : (Cond.code y bytes maxL ret).before args s = true) (hno : y.name ≠ "<init>") (hx : y.cls ≠ "java/lang/invoke/MethodHandle" ∧ y.cls ≠ "java/lang/invoke/VarHandle")
    {W : Nat} {Pre : Pt → Array Value → Prop} {Post : Pt → Array Value → Option Value → Pt → Prop} (hK : Back l R p e below s args y 3 W Pre Post)
    {b : Addr} {cellB : Cell} {kB : Class} (hcell : T.heap[b]? = some cellB) (hobj : cellB.vm.isStatics = false) (hkB : s.vm.classes[cellB.cls]? = some kB)
    {g : JFrame} (hg : g.method = m) (hsize : g.locals.size = c.maxLocals) {argsL rest : List Value} (hlen : ∀ sig, parseMethodDescriptor y.desc = some sig → argsL.length = sig.parameters.length)
    (hstack : g.stack = argsL.reverse ++ .ref b :: rest) (hW : 2 * g.monitorRoom + (rest.map fun v => v.category).sum ≤ W) (hdg : decode c.code g.pc = .ok (.invokespecial index, 3))
    (hpre : ∀ vm₁, s.WarmedH vm₁ → Pre ⟨T.setVm vm₁, locs, cells, slots⟩ (Value.ref b :: argsL).toArray) :
    ∃ (v : Option Value) (vm₁ : Vm) (B : Pt), s.WarmedH vm₁ ∧ Stand p l e R s m args below meth c B.U B.locs B.cells B.slots ∧ Post ⟨T.setVm vm₁, locs, cells, slots⟩ (Value.ref b :: argsL).toArray v B ∧
      ∀ target, Steps p.tables e below (B.U.setTop { g with pc := g.pc + 3, stack := v.toList ++ rest }) target → Steps p.tables e below (T.setTop g) target := by
  obtain ⟨mk, methM, hnamed, hmethM, hstM, habM⟩ := Cond.instanceMethod_spec hinst
  obtain ⟨methM', cM, hmethM', -, -, -, -, -, -, hsigM⟩ := Cond.code_spec hnamed hcode
  cases hmethM.symm.trans hmethM'
  obtain ⟨ps, dk, kp, hps, hdk, hkp, hsuper, -, -, hnid⟩ := Cond.superclass_spec hown hsup
  obtain ⟨cL, kL, r1, hcL, hkL, hiL, hfoundL, hn1⟩ := Cond.interfaceMethod_spec hface
  have hmkc : mk.cls = cL := Option.some.inj ((findClass_of_methodNamed hnamed).symm.trans hcL)
  obtain ⟨hrn, hrd⟩ := name_of_methodNamed hnamed hmethM
  have hpl : e.platform.magicAccessors = ({} : Platform).magicAccessors := by rw [X.admits.platform]
  obtain ⟨ci, hl, hright⟩ := Cond.methodLink_spec hown hnamed hlink e.platform hpl
  obtain ⟨kx, hkx, hnx⟩ := className_of_methodNamed hnamed
  have hE : s.MethodEntry e T.vm m.cls index mk ci := State.methodEntry X.warmed hl hright fun k hk => by
    cases hkx.symm.trans hk
    rw [hnx]; exact hx
  obtain ⟨dk0, cfile, nt, _, _, via, ck, _, hd, hcf, hcp, -, -, -, hck, -, hnopoly, -⟩ := hl.here
  cases hdk.symm.trans hd
  have hcp' : cfile.constantPool[index]? = some (.methodref ci nt) ∨ cfile.constantPool[index]? = some (.interfaceMethodref ci nt) := by
    cases via
    · exact Or.inl (by simpa using hcp)
    · exact Or.inr (by simpa using hcp)
  have alike := hE.warmed.alike
  obtain ⟨dk', hdk', hde'⟩ := alike.2.2 _ _ hdk
  obtain ⟨mk', hmk', hme'⟩ := alike.2.2 _ _ hkx
  obtain ⟨kc', hkc', -⟩ := alike.2.2 _ _ hkB
  have hkL' : s.vm.classes[mk.cls]? = some kL := by rw [hmkc]; exact hkL
  cases hkx.symm.trans hkL'
  have hi' : mk'.isInterface = true := by rw [hme']; exact hiL
  have hf0 : lookupSpecial s.vm mk.cls y.name y.desc = .method mk := lookupSpecial_of_named hnamed hmethM hstM
  have X₁ : Stand p l e R s m args below meth c (T.setVm (T.vm.called m.cls ci index mk)) locs cells slots := X.noted hE.warmed
  have hstep₁ : ∀ target, Steps p.tables e below (doInvoke e ((T.setVm (T.vm.called m.cls ci index mk)).setTop { g with stack := rest }) [] mk (.ref b :: argsL).toArray).1 target → Steps p.tables e below (T.setTop g) target := by
    intro target hrest
    subst hg
    jvm_step X.here [hexec, hdg, invokespecial.wp_cold (e := e) (s := T) (s₀ := s) (f := g) X.here.top hE hdk hcf hcp' hmethM,
      vd_readyI (e := e) (s := T.setVm (T.vm.called g.method.cls ci index mk)) (f := g) (m := mk) (named := mk.cls) (ck := dk') (nk := mk') (mk := mk') (cf := cfile) (r := methM) (args := argsL) (rest := rest) (cell := cellB) (kcell := kc') (a := b)
        X.here.top hE.ready (by show (T.vm.called g.method.cls ci index mk).method? mk = some methM; rw [alike.method?]; exact hmethM) hdk' (by rw [hde']; exact hcf) hcp' hE.classReady hmk' (by simp) hstM
        (by rw [hi']; simp only [Bool.not_true, Bool.and_false, Bool.false_and, Bool.false_eq_true, if_false]; show lookupSpecial (T.vm.called g.method.cls ci index mk) _ _ _ = _; rw [alike.lookupSpecial, hrn, hrd]; exact hf0) (by rw [hde']; exact hnid) hmk' habM (hlen _ hsigM) hstack hcell (fun z h => by rw [h] at hobj; cases hobj) hkc']
    intro acts1
    rw [doInvoke_state]
    exact hrest
  obtain ⟨v, B, X', hpost, hsteps⟩ := hK m meth c ⟨T.setVm (T.vm.called m.cls ci index mk), locs, cells, slots⟩ { g with stack := rest } (.invokespecial index) mk (Value.ref b :: argsL).toArray X₁ hg hsize hdg hW (X₁.named hnamed) (hpre _ X₁.warmed)
  exact ⟨v, _, B, X₁.warmed, X', hpost, fun target h => hstep₁ _ (by rw [doInvoke_state]; exact hsteps.trans h)⟩
variable {H : Heap} {locs : List Loc} {cells slots : Nat}
theorem vd_runSF {y : MethodName} {bytes cc : ByteArray} {maxL nL mc ms n index : Nat} {ret : Option FieldType} {ws : List Cond} {rm : Room} {Pc : Array Value → State → Prop} {Qc : Array Value → State → Outcome → State → Prop} {free : Addr → Prop} {Ts : List Cond} {own sup C : String} {cC : ClassId} {b : Addr} {As rest : List Value} {g : JFrame}
    (hat : ClassAt s C cC) (S : CallFix p m c cc nL s args Ts own) (hM : vd_Met l y ws rm Pc Qc mc ms free) (hbk : rm.cells = mc ∧ rm.slots = ms ∧ rm.frames + 1 ≤ R.frames ∧ 8 + (maxL + 11) + rm.locals ≤ R.locals ∧ (∀ w ∈ ws, ∀ (a' : Array Value) (U : State), s.WarmedH U.vm → w.before a' U = true) ∧ Cond.code y bytes maxL ret ∈ ws)
    (hlink : (Cond.methodLink own index y).before args s = true) (hface : (Cond.interfaceMethod y.cls y.cls y.name y.desc).before args s = true) (hsup : (Cond.superclass own sup).before args s = true) (hinst : (Cond.instanceMethod y).before args s = true) (hcode : (Cond.code y bytes maxL ret).before args s = true) (hno : y.name ≠ "<init>") (hx : y.cls ≠ "java/lang/invoke/MethodHandle" ∧ y.cls ≠ "java/lang/invoke/VarHandle")
    (hlen : ∀ sig, parseMethodDescriptor y.desc = some sig → n = sig.parameters.length) (hp : PreV s H C b Pc As)
    (hg : g.method = m) (hn : As.length = n) (hsize : g.locals.size = nL) (hstack : g.stack = As.reverse ++ .ref b :: rest) (hW : 2 * g.monitorRoom + (rest.map fun v => v.category).sum ≤ 8) (hdg : decode cc g.pc = .ok (.invokespecial index, 3)) (hf : cells + mc ≤ R.cells ∧ slots + ms ≤ R.slots) :
    va_Run p l e R s m args below meth c H locs cells slots mc ms g rest (Qc (Value.ref b :: As).toArray) (free) := by
  obtain ⟨hrc, hrs, hfr, hlo, hws, hcw⟩ := hbk
  have hK : Back l R p e below s args y 3 8 (PreOf R mc ms Pc) (PostOf Qc mc ms free) := vd_back (bytes := bytes) (maxL := maxL) (ret := ret) hM hp.1 hrc hrs hfr hlo hws hcw
  obtain ⟨hx0, hb, hml, ho, -⟩ := S
  obtain ⟨-, ⟨cellB, hcB, hoB, hclB⟩, hPc⟩ := hp
  obtain ⟨hfc, kB, hkB, -⟩ := hat
  cases hfc.symm.trans hclB
  intro T hT X
  obtain ⟨v, vm₁, ⟨U', l2, c2, s2⟩, hW₁, X', ⟨g', mk, t, L, e1, e2, hq, h1, hL, h2, h3⟩, st⟩ := vd_callSF X hx0 (sup := sup) (bytes := bytes) (maxL := maxL) (ret := ret) ho hlink hface hsup hinst hcode hno hx hK (by rw [hT]; exact hcB) hoB hkB hg (hsize.trans hml.symm) (argsL := As) (rest := rest) (fun sig h => hn.trans (hlen sig h)) hstack hW (by rw [hb]; exact hdg)
    (fun vm₁ hW₁ => ⟨hf.1, hf.2, hPc (T.setVm vm₁) hT hW₁⟩)
  dsimp only [Pt.U, Pt.locs, Pt.cells, Pt.slots] at X' e1 e2 h1 h2 h3 st
  subst h1; subst h2; subst h3
  exact ⟨v, (T.setVm vm₁).calling g' mk (Value.ref b :: As).toArray, t, U', L, hT, X', hL, e1, e2, hq, st⟩
end ZSG

section ZFZ
variable {p : Program} {l : Launch} {e : Env} {R : Room} {s : State} {m : MethodId} {args : Array Value} {below : List Frame} {meth : Method} {c : Code} {Q : State → Prop} {nL : Nat} {D : va_G} {A : Nat → Prop} {cells slots : Nat} {cc : ByteArray} {own : String} {ret : Option FieldType} {B0 : Nat} {pc : Nat} {lv lv' : List (Nat × Value)} {st : List Value} {ws ws' wc wr : List va_W} {I : Heap → List Loc → Prop}
theorem z_cOFD {S : Type} {post : S → Prop} {val : S → Option Value} {y : MethodName} {bytes : ByteArray} {maxL n index b ci : Nat} {fs : List Value} {r : vw_C} {rety : Option FieldType} {rm : Room} {x : MethodName} {count : Nat} (g : zG p s m args meth c cc nL own ret D B0) (o : zOK B0 D s ws I) (As rest : List Value) {st0 : List Value} (is : List Nat) (hM : vd_Met l y (ws_ y bytes maxL rety) rm (va_Pc (.ref b :: As) (zPreO B0 D wc)) (zQo post val) 0 0 (fun _ => False)) (q1 : Cond.methodLink own index x ∈ lw_all) (q2 : Cond.instanceMethod y ∈ lw_all) (hL : vd_lands s r.1 x y) (hF : va_Fw r.1 x y s) (hd : zHd x n) (q5 : Cond.code y bytes maxL rety ∈ lw_all) (hm : (b, .inr (ci, fs)) ∈ ws.flatten) (hc : vwCl[ci]? = some r) (hrm : rm.cells = 0 ∧ rm.slots = 0) (hR : rm.frames + 1 ≤ R.frames ∧ 8 + (maxL + 11) + rm.locals ≤ R.locals) (hwc : zPick ws is = wc) (hn : As.length = n) (hst : st0 = As.reverse ++ .ref b :: rest) (hro : (rest.map fun v => v.category).sum ≤ 8) (hf : cells ≤ R.cells ∧ slots ≤ R.slots) (d : decode cc pc = .ok (.invokeinterface index count, 5)) (kk : ∀ u : S, post u → (zJ p l e R s m args below meth c Q nL (I) (cells) (slots) (pc + 5) (lv) ((val u).toList ++ rest))) : (zJ p l e R s m args below meth c Q nL (I) (cells) (slots) (pc) (lv) (st0)) :=
  z_obs5 o (fun H locs ls hI hl => vd_runF (g.K.1 ci r hc).2 g.fix hM ⟨hrm.1, hrm.2, hR.1, hR.2, (z_gin q5 g.ts).1, (z_gin q5 g.ts).2⟩ (g.ts _ q1) (va_any rfl hF.1) (va_any rfl hF.2.1) hL (g.ts _ q2) (va_any rfl hF.2.2.1) (va_any rfl hF.2.2.2.2) ⟨hd.1, hd.2.1⟩ (z_len hd.2.2) ⟨zPreO.blind, z_recv g.K (o H locs hI).1 hm hc, z_preo (y := y) g o hI is hwc⟩ rfl hn hl.1 hst (lv_room hro) d hf) kk
theorem z_cMFD {S : Type} {post : S → Prop} {val : S → Option Value} {w1 : S → List va_W} {mc ms : Nat} {y : MethodName} {bytes : ByteArray} {maxL n index b ci : Nat} {fs : List Value} {r : vw_C} {rety : Option FieldType} {rm : Room} {x : MethodName} {count : Nat} (g : zG p s m args meth c cc nL own ret D B0) (hA : zA s A B0) (As rest : List Value) {st0 : List Value} (isC isR : List Nat) (hM : ∀ A1 : Nat → Prop, vd_Met l y (ws_ y bytes maxL rety) rm (va_Pc (.ref b :: As) (zPre B0 D A1 wc)) (zQ post val w1 D A1) mc ms A1) (q1 : Cond.methodLink own index x ∈ lw_all) (q2 : Cond.instanceMethod y ∈ lw_all) (hL : vd_lands s r.1 x y) (hF : va_Fw r.1 x y s) (hd : zHd x n) (q5 : Cond.code y bytes maxL rety ∈ lw_all) (hm : (b, .inr (ci, fs)) ∈ ws.flatten) (hc : vwCl[ci]? = some r) (hrm : rm.cells = mc ∧ rm.slots = ms) (hR : rm.frames + 1 ≤ R.frames ∧ 8 + (maxL + 11) + rm.locals ≤ R.locals) (hwc : zPick ws isC = wc) (hwr : zPick ws isR = wr) (hperm : (isC ++ isR).isPerm (List.range ws.length) = true) (hn : As.length = n) (hst : st0 = As.reverse ++ .ref b :: rest) (hro : (rest.map fun v => v.category).sum ≤ 8) (hf : cells + mc ≤ R.cells ∧ slots + ms ≤ R.slots) (d : decode cc pc = .ok (.invokeinterface index count, 5)) (kk : ∀ u : S, post u → (zJ p l e R s m args below meth c Q nL (zI D A s (w1 u ++ wr)) (cells + mc) (slots + ms) (pc + 5) (lv) ((val u).toList ++ rest))) : (zJ p l e R s m args below meth c Q nL (zI D A s ws) (cells) (slots) (pc) (lv) (st0)) :=
  z_mut5 hA isC isR hwc hwr hperm (fun H locs ls hI hl => vd_runF (g.K.1 ci r hc).2 g.fix (hM _) ⟨hrm.1, hrm.2, hR.1, hR.2, (z_gin q5 g.ts).1, (z_gin q5 g.ts).2⟩ (g.ts _ q1) (va_any rfl hF.1) (va_any rfl hF.2.1) hL (g.ts _ q2) (va_any rfl hF.2.2.1) (va_any rfl hF.2.2.2.2) ⟨hd.1, hd.2.1⟩ (z_len hd.2.2) ⟨zPre.blind, z_recv g.K hI.1 hm hc, z_prem g hA hI isC isR hwc hwr hperm⟩ rfl hn hl.1 hst (lv_room hro) d hf) kk
theorem z_cOSF {S : Type} {post : S → Prop} {val : S → Option Value} {y : MethodName} {bytes : ByteArray} {maxL n index b ci : Nat} {fs : List Value} {r : vw_C} {rety : Option FieldType} {rm : Room} {sup : String} (g : zG p s m args meth c cc nL own ret D B0) (o : zOK B0 D s ws I) (As rest : List Value) {st0 : List Value} (is : List Nat) (hM : vd_Met l y (ws_ y bytes maxL rety) rm (va_Pc (.ref b :: As) (zPreO B0 D wc)) (zQo post val) 0 0 (fun _ => False)) (q1 : Cond.methodLink own index y ∈ lw_all) (hfc : va_Nw (.interfaceMethod y.cls y.cls y.name y.desc) s) (qp : Cond.superclass own sup ∈ lw_all) (q2 : Cond.instanceMethod y ∈ lw_all) (hno : y.name ≠ "<init>") (hd : zHd y n) (q5 : Cond.code y bytes maxL rety ∈ lw_all) (hm : (b, .inr (ci, fs)) ∈ ws.flatten) (hc : vwCl[ci]? = some r) (hrm : rm.cells = 0 ∧ rm.slots = 0) (hR : rm.frames + 1 ≤ R.frames ∧ 8 + (maxL + 11) + rm.locals ≤ R.locals) (hwc : zPick ws is = wc) (hn : As.length = n) (hst : st0 = As.reverse ++ .ref b :: rest) (hro : (rest.map fun v => v.category).sum ≤ 8) (hf : cells ≤ R.cells ∧ slots ≤ R.slots) (d : decode cc pc = .ok (.invokespecial index, 3)) (kk : ∀ u : S, post u → (zJ p l e R s m args below meth c Q nL (I) (cells) (slots) (pc + 3) (lv) ((val u).toList ++ rest))) : (zJ p l e R s m args below meth c Q nL (I) (cells) (slots) (pc) (lv) (st0)) :=
  z_obs (len := 0) o (fun H locs ls hI hl => vd_runSF (g.K.1 ci r hc).2 g.fix hM ⟨hrm.1, hrm.2, hR.1, hR.2, (z_gin q5 g.ts).1, (z_gin q5 g.ts).2⟩ (g.ts _ q1) (va_any rfl hfc) (g.ts _ qp) (g.ts _ q2) (g.ts _ q5) hno ⟨hd.1, hd.2.1⟩ (z_len hd.2.2) ⟨zPreO.blind, z_recv g.K (o H locs hI).1 hm hc, z_preo (y := y) g o hI is hwc⟩ rfl hn hl.1 hst (lv_room hro) d hf) kk
theorem z_cMSF {S : Type} {post : S → Prop} {val : S → Option Value} {w1 : S → List va_W} {mc ms : Nat} {y : MethodName} {bytes : ByteArray} {maxL n index b ci : Nat} {fs : List Value} {r : vw_C} {rety : Option FieldType} {rm : Room} {sup : String} (g : zG p s m args meth c cc nL own ret D B0) (hA : zA s A B0) (As rest : List Value) {st0 : List Value} (isC isR : List Nat) (hM : ∀ A1 : Nat → Prop, vd_Met l y (ws_ y bytes maxL rety) rm (va_Pc (.ref b :: As) (zPre B0 D A1 wc)) (zQ post val w1 D A1) mc ms A1) (q1 : Cond.methodLink own index y ∈ lw_all) (hfc : va_Nw (.interfaceMethod y.cls y.cls y.name y.desc) s) (qp : Cond.superclass own sup ∈ lw_all) (q2 : Cond.instanceMethod y ∈ lw_all) (hno : y.name ≠ "<init>") (hd : zHd y n) (q5 : Cond.code y bytes maxL rety ∈ lw_all) (hm : (b, .inr (ci, fs)) ∈ ws.flatten) (hc : vwCl[ci]? = some r) (hrm : rm.cells = mc ∧ rm.slots = ms) (hR : rm.frames + 1 ≤ R.frames ∧ 8 + (maxL + 11) + rm.locals ≤ R.locals) (hwc : zPick ws isC = wc) (hwr : zPick ws isR = wr) (hperm : (isC ++ isR).isPerm (List.range ws.length) = true) (hn : As.length = n) (hst : st0 = As.reverse ++ .ref b :: rest) (hro : (rest.map fun v => v.category).sum ≤ 8) (hf : cells + mc ≤ R.cells ∧ slots + ms ≤ R.slots) (d : decode cc pc = .ok (.invokespecial index, 3)) (kk : ∀ u : S, post u → (zJ p l e R s m args below meth c Q nL (zI D A s (w1 u ++ wr)) (cells + mc) (slots + ms) (pc + 3) (lv) ((val u).toList ++ rest))) : (zJ p l e R s m args below meth c Q nL (zI D A s ws) (cells) (slots) (pc) (lv) (st0)) :=
  z_mut hA isC isR hwc hwr hperm (fun H locs ls hI hl => vd_runSF (g.K.1 ci r hc).2 g.fix (hM _) ⟨hrm.1, hrm.2, hR.1, hR.2, (z_gin q5 g.ts).1, (z_gin q5 g.ts).2⟩ (g.ts _ q1) (va_any rfl hfc) (g.ts _ qp) (g.ts _ q2) (g.ts _ q5) hno ⟨hd.1, hd.2.1⟩ (z_len hd.2.2) ⟨zPre.blind, z_recv g.K hI.1 hm hc, z_prem g hA hI isC isR hwc hwr hperm⟩ rfl hn hl.1 hst (lv_room hro) d hf) kk
theorem zK.ifm {s : State} (k : zK B0 D s) {C x : MethodName} {cl : String} (hx : x.cls ≠ "java/lang/invoke/MethodHandle" ∧ x.cls ≠ "java/lang/invoke/VarHandle") (q1 : Cond.declares x ∈ lw_tbl) (q2 : Cond.interfaceMethod x.cls x.cls x.name x.desc ∈ lw_tbl) (q3 : Cond.publicMethod C ∈ lw_tbl) (q4 : Cond.unhidden cl x.name x.desc ∈ lw_tbl) (q5 : Cond.castable cl x.cls ∈ lw_tbl) : va_Nw (.interfaceMethod x.cls x.cls x.name x.desc) s := (k.face (y := C) hx q1 q2 q3 q4 q5).2.1
end ZFZ
