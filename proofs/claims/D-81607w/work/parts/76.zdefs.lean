set_option maxRecDepth 100000
/-! DEFAULTS BY super: what invokespecial finds from a class whose superclasses declare nothing -/
theorem pigeon : ∀ (N : Nat) (g : Nat → Nat), (∀ i, i ≤ N → g i < N) → ∃ i j, i < j ∧ j ≤ N ∧ g i = g j
  | 0, g, h => absurd (h 0 (Nat.le_refl _)) (Nat.not_lt_zero _)
  | N + 1, g, h => by
    by_cases hv : ∃ i, i ≤ N ∧ g i = g (N + 1)
    · obtain ⟨i, h1, h2⟩ := hv
      exact ⟨i, N + 1, by omega, Nat.le_refl _, h2⟩
    · have hv' : ∀ i, i ≤ N → g i ≠ g (N + 1) := fun i hi he => hv ⟨i, hi, he⟩
      have hN := h (N + 1) (Nat.le_refl _)
      obtain ⟨i, j, h1, h2, h3⟩ := pigeon N (fun i => if g i = N then g (N + 1) else g i) (fun i hi => by
        have a := h i (by omega)
        have b := hv' i hi
        show (if g i = N then g (N + 1) else g i) < N
        split <;> omega)
      have h3 : (if g i = N then g (N + 1) else g i) = (if g j = N then g (N + 1) else g j) := h3
      have a := hv' i (by omega)
      have b := hv' j h2
      refine ⟨i, j, h1, by omega, ?_⟩
      split at h3 <;> split at h3 <;> omega
def upN (vm : Vm) : Nat → ClassId → Option ClassId
  | 0, c => some c
  | n + 1, c => (vm.classes[c]?.bind (·.super)).bind (upN vm n)
theorem upN_add (vm : Vm) (b : Nat) : ∀ (a : Nat) (c : ClassId), upN vm (a + b) c = (upN vm a c).bind (upN vm b)
  | 0, c => by rw [Nat.zero_add]; rfl
  | a + 1, c => by
    rw [show a + 1 + b = (a + b) + 1 by omega]
    show (vm.classes[c]?.bind (·.super)).bind (upN vm (a + b)) = ((vm.classes[c]?.bind (·.super)).bind (upN vm a)).bind (upN vm b)
    cases vm.classes[c]?.bind (·.super) with
    | none => rfl
    | some p => exact upN_add vm b a p
theorem upN_cycle {vm : Vm} {c p : ClassId} (h : upN vm (vm.classes.size + 1) c = some p) : ∃ i, i ≤ vm.classes.size ∧ upN vm i c = some p := by
  have h1 : ∀ i, i ≤ vm.classes.size → ∃ q, upN vm i c = some q ∧ q < vm.classes.size := by
    intro i hi
    rw [show vm.classes.size + 1 = i + ((vm.classes.size - i) + 1) by omega, upN_add] at h
    cases e : upN vm i c with
    | none => rw [e] at h; cases h
    | some q =>
      rw [e] at h
      have h : (vm.classes[q]?.bind (·.super)).bind (upN vm (vm.classes.size - i)) = some p := h
      refine ⟨q, rfl, ?_⟩
      rcases Nat.lt_or_ge q vm.classes.size with hq | hq
      · exact hq
      · rw [Array.getElem?_eq_none hq] at h; cases h
  obtain ⟨i, j, h2, h3, h4⟩ := pigeon vm.classes.size (fun i => (upN vm i c).getD vm.classes.size) (fun i hi => by
    obtain ⟨q, e, hq⟩ := h1 i hi
    show (upN vm i c).getD vm.classes.size < vm.classes.size
    rw [e]; exact hq)
  obtain ⟨q1, e1, -⟩ := h1 i (by omega)
  obtain ⟨q2, e2, -⟩ := h1 j h3
  have h4 : (upN vm i c).getD vm.classes.size = (upN vm j c).getD vm.classes.size := h4
  rw [e1, e2] at h4
  have h4 : q1 = q2 := h4
  subst h4
  refine ⟨i + (vm.classes.size + 1 - j), by omega, ?_⟩
  rw [upN_add, e1]
  rw [show vm.classes.size + 1 = j + (vm.classes.size + 1 - j) by omega, upN_add, e2] at h
  exact h
theorem look_none {vm : Vm} {name desc : String} : ∀ (n : Nat) (c : ClassId), lookupInSuperclasses vm name desc n c = none → ∀ i, i < n → ∀ p, upN vm i c = some p → ∀ k, vm.classes[p]? = some k → k.findMethod name desc = none
  | 0, c, _, i, hi, _, _, _, _ => absurd hi (Nat.not_lt_zero _)
  | n + 1, c, h, i, hi, p, hp, k, hk => by
    unfold lookupInSuperclasses at h
    cases e : vm.classes[c]? with
    | none =>
      cases i with
      | zero => cases hp; rw [e] at hk; cases hk
      | succ i => simp only [upN, e] at hp; cases hp
    | some kc =>
      simp only [e, Option.bind_eq_bind, Option.bind_some] at h
      cases ef : kc.findMethod name desc with
      | some j => rw [ef] at h; cases h
      | none =>
        cases i with
        | zero => cases hp; rw [e] at hk; cases hk; exact ef
        | succ i =>
          simp only [upN, e, Option.bind_some] at hp
          rw [ef] at h
          cases es : kc.super with
          | none => rw [es] at hp; cases hp
          | some q =>
            rw [es] at hp h
            exact look_none n q h i (by omega) p hp k hk
theorem sup_mem {vm : Vm} : ∀ (n : Nat) (c p : ClassId), p ∈ vm.superclassesAux n c → ∃ i, 1 ≤ i ∧ i ≤ n ∧ upN vm i c = some p
  | 0, c, p, h => by simp [Vm.superclassesAux] at h
  | n + 1, c, p, h => by
    unfold Vm.superclassesAux at h
    cases e : vm.classes[c]?.bind (·.super) with
    | none => rw [e] at h; cases h
    | some q =>
      rw [e] at h
      rcases List.mem_cons.mp h with rfl | h
      · exact ⟨1, Nat.le_refl _, by omega, by simp only [upN, e]; rfl⟩
      · obtain ⟨i, h1, h2, h3⟩ := sup_mem n q p h
        exact ⟨i + 1, by omega, by omega, by simp only [upN, e]; exact h3⟩
theorem sel_none {vm : Vm} {mR : MethodId} {name desc : String} : ∀ (n : Nat) (c : ClassId), lookupInSuperclasses vm name desc n c = none → selectInSuperclasses vm mR name desc n c = none
  | 0, _, _ => rfl
  | n + 1, c, h => by
    unfold lookupInSuperclasses at h
    unfold selectInSuperclasses
    cases e : vm.classes[c]? with
    | none => rfl
    | some kc =>
      simp only [e, Option.bind_eq_bind, Option.bind_some] at h ⊢
      cases ef : kc.findMethod name desc with
      | some j => rw [ef] at h; cases h
      | none =>
        rw [ef] at h
        simp only [Option.bind_none]
        cases es : kc.super with
        | none => rfl
        | some q =>
          rw [es] at h
          exact sel_none n q h
theorem face_mem {vm : Vm} {c : ClassId} {name desc : String} {m : MethodId} (h : lookupInSuperinterfaces vm c name desc = some m) : m ∈ superinterfaceMethods vm c name desc := by
  unfold lookupInSuperinterfaces at h
  split at h
  · rename_i x hx
    cases h
    have h1 : m ∈ (maximallySpecific vm c name desc).filter fun m => (vm.method? m).any (!·.isAbstract) := by rw [hx]; exact List.mem_cons_self
    exact (List.mem_filter.mp (List.mem_filter.mp h1).1).1
  · obtain ⟨i, -, h2⟩ := List.exists_of_findSome?_eq_some h
    exact List.mem_of_find?_eq_some h2
theorem lookupSpecial_default {vm : Vm} {c : ClassId} {k mk : Class} {name desc : String} {r0 : MethodId} {rm : Method} (hk : vm.classes[c]? = some k) (hni : k.isInterface = false) (hup : vm.lookupUp c name desc = some r0) (hrm : vm.method? r0 = some rm) (hn : rm.name = name) (hd : rm.desc = desc) (hst : rm.isStatic = false)
    (hsel : selectMethod {} vm c r0 = .method r0) (hmk : vm.classes[r0.cls]? = some mk) (hif : mk.isInterface = true) : lookupSpecial vm c name desc = .method r0 := by
  cases hL : lookupInSuperclasses vm name desc (vm.classes.size + 1) c with
  | some z => exact lookupSpecial_of_lookupUp hk hni hup (by rw [hL]; rfl) hrm hst
  | none =>
    have hno : ∀ p, (p = c ∨ p ∈ vm.superclasses c) → ∀ kp, vm.classes[p]? = some kp → kp.findMethod name desc = none := by
      intro p hp kp hkp
      rcases hp with rfl | hp
      · exact look_none _ p hL 0 (by omega) p rfl kp hkp
      · obtain ⟨i, -, h2, h3⟩ := sup_mem _ _ _ hp
        rcases Nat.lt_or_ge i (vm.classes.size + 1) with h4 | h4
        · exact look_none _ c hL i h4 p h3 kp hkp
        · have h5 : i = vm.classes.size + 1 := by omega
          rw [h5] at h3
          obtain ⟨j, h6, h7⟩ := upN_cycle h3
          exact look_none _ c hL j (by omega) p h7 kp hkp
    have hface : lookupInSuperinterfaces vm c name desc = some r0 := by
      have := hup
      unfold Vm.lookupUp at this
      rw [hL] at this
      exact this
    have hpriv : rm.isPrivate = false := by
      have h1 := face_mem hface
      unfold superinterfaceMethods at h1
      obtain ⟨i, -, h2⟩ := List.mem_filterMap.mp h1
      simp only [Option.bind_eq_bind, Option.bind_eq_some_iff] at h2
      obtain ⟨ki, -, idx, -, m', h3, h4⟩ := h2
      split at h4
      · cases h4
      · rename_i h5
        cases h4
        rw [hrm] at h3
        cases h3
        cases e : rm.isPrivate with
        | false => rfl
        | true => simp [e] at h5
    have hown : (vm.classes[c]?.bind (·.findMethod name desc)) = none := by rw [hk]; exact hno c (Or.inl rfl) k hk
    have habove : superclassMethods vm c name desc = [] := by
      unfold superclassMethods
      rw [List.filterMap_eq_nil_iff]
      intro p hp
      cases e : vm.classes[p]? with
      | none => rfl
      | some kp => simp only [Option.bind_some, hno p (Or.inr hp) kp e]; rfl
    unfold lookupSpecial
    rw [hown, habove]
    simp only [Option.map_none, Option.toList_none, List.filter_nil, List.append_nil, List.find?_nil]
    unfold selectMethod at hsel
    rw [hrm] at hsel
    simp only [hpriv, Bool.false_eq_true, if_false, hn, hd, hmk, Option.any_some, hif, Bool.not_true, Bool.and_false] at hsel
    split at hsel
    · cases hsel
    · rw [sel_none _ _ hL] at hsel
      exact hsel
section ZSD
variable {p : Program} {l : Launch} {e : Env} {R : Room} {s : State} {m : MethodId} {args : Array Value} {below : List Frame} {meth : Method} {c : Code}
theorem vd_callSD {T : State} {locs : List Loc} {cells slots : Nat} (X : Stand p l e R s m args below meth c T locs cells slots) (hexec : p.tables.exec = Jvm.exec) {own : String} {index : Nat} {x y : MethodName} {bytes : ByteArray} {maxL : Nat} {ret : Option FieldType}
    (hown : s.vm.findClass own = some m.cls) (hlink : (Cond.methodLink own index x).before args s = true) (hsame : (Cond.sameMethod x.cls y.cls x.name x.desc).before args s = true) (hxy : y.name = x.name ∧ y.desc = x.desc) (hsup : (Cond.superclass own x.cls).before args s = true) (hlands : vd_lands s x.cls x y)
    (hinst : (Cond.instanceMethod y).before args s = true) (hcode : (Cond.code y bytes maxL ret).before args s = true) (hno : x.name ≠ "<init>")
    {W : Nat} {Pre : Pt → Array Value → Prop} {Post : Pt → Array Value → Option Value → Pt → Prop} (hK : Back l R p e below s args y 3 W Pre Post)
    {b : Addr} {cellB : Cell} {kB : Class} (hcell : T.heap[b]? = some cellB) (hobj : cellB.vm.isStatics = false) (hkB : s.vm.classes[cellB.cls]? = some kB)
    {g : JFrame} (hg : g.method = m) (hsize : g.locals.size = c.maxLocals) {argsL rest : List Value} (hlen : ∀ sig, parseMethodDescriptor y.desc = some sig → argsL.length = sig.parameters.length)
    (hstack : g.stack = argsL.reverse ++ .ref b :: rest) (hW : 2 * g.monitorRoom + (rest.map fun v => v.category).sum ≤ W) (hdg : decode c.code g.pc = .ok (.invokespecial index, 3))
    (hpre : ∀ vm₁, s.WarmedH vm₁ → Pre ⟨T.setVm vm₁, locs, cells, slots⟩ (Value.ref b :: argsL).toArray) :
    ∃ (v : Option Value) (vm₁ : Vm) (B : Pt), s.WarmedH vm₁ ∧ Stand p l e R s m args below meth c B.U B.locs B.cells B.slots ∧ Post ⟨T.setVm vm₁, locs, cells, slots⟩ (Value.ref b :: argsL).toArray v B ∧
      ∀ target, Steps p.tables e below (B.U.setTop { g with pc := g.pc + 3, stack := v.toList ++ rest }) target → Steps p.tables e below (T.setTop g) target := by
  obtain ⟨mk, methM, hnamed, hmethM, hstM, habM⟩ := Cond.instanceMethod_spec hinst
  obtain ⟨methM', cM, hmethM', -, -, -, -, -, -, hsigM⟩ := Cond.code_spec hnamed hcode
  cases hmethM.symm.trans hmethM'
  obtain ⟨cn, dk, kp, hcn, hdk, hkp, hsuper, -, -, hnid⟩ := Cond.superclass_spec hown hsup
  have hpl : e.platform.magicAccessors = ({} : Platform).magicAccessors := by rw [X.admits.platform]
  obtain ⟨cn', ck, r1, hcn', hck, hni, hf, hn1⟩ := Cond.sameMethod_found hsame
  have hnamed' : s.methodNamed? ⟨y.cls, x.name, x.desc⟩ = some mk := by rw [← hxy.1, ← hxy.2]; exact hnamed
  cases hnamed'.symm.trans hn1
  cases hcn.symm.trans hcn'
  obtain ⟨ci, hl, hright⟩ := Cond.methodLink_specUp hown hcn hck hni hf hlink e.platform hpl (by rw [X.admits.platform])
  obtain ⟨kr, hkr, -⟩ := className_of_methodNamed hnamed
  obtain ⟨hrn, hrd⟩ := name_of_methodNamed hnamed hmethM
  obtain ⟨dk₀, cfile, nt, _, _, ck₀, _, _, hd₀, hcf, hcp, -, -, -, hc₀, -, hpoly, -⟩ := hl.here
  cases hdk.symm.trans hd₀
  cases hck.symm.trans hc₀
  have hup : s.vm.lookupUp cn x.name x.desc = some mk := ((State.methodFound?_class hcn hck hni hpoly mk).mp hf).1
  obtain ⟨c2, r2, m2, rm, q1, q2, q3, q5, q4, ⟨kP, hkP, hkPi⟩, -⟩ := hlands
  cases hcn.symm.trans q1
  cases hf.symm.trans q2
  cases hnamed.symm.trans q3
  have hfound0 : lookupSpecial s.vm cn x.name x.desc = .method mk := lookupSpecial_default hck hni hup hmethM (hrn.trans hxy.1) (hrd.trans hxy.2) hstM q4 hkP hkPi
  subst hg
  obtain ⟨vm', hW', st⟩ := Steps.invokeSuperColdArgs (tb := p.tables) (e := e) (s₀ := s) (U := T) (f := g) (args := argsL) (rest := rest) (a := b) (cell := cellB) (m := mk) X.here hexec hdg X.warmed hl hright hdk hcf hcp hmethM hck
    (by rw [hrn, hxy.1]; simp [hno]) hstM (by rw [hrn, hrd, hxy.1, hxy.2, hsuper]; simpa using hfound0) hnid hkr habM (hlen _ hsigM) hstack hcell (fun z h => by rw [h] at hobj; cases hobj) hkB
  have X₁ := X.noted hW'
  obtain ⟨v, B, X', hpost, hsteps⟩ := hK g.method meth c ⟨T.setVm vm', locs, cells, slots⟩ { g with stack := rest } (.invokespecial index) mk (Value.ref b :: argsL).toArray X₁ rfl hsize hdg hW (X₁.named hnamed) (hpre vm' X₁.warmed)
  exact ⟨v, vm', B, X₁.warmed, X', hpost, fun target h => st _ (by rw [doInvoke_state]; exact hsteps.trans h)⟩
variable {H : Heap} {locs : List Loc} {cells slots : Nat}
theorem vd_runSD {x y : MethodName} {bytes cc : ByteArray} {maxL nL mc ms n index : Nat} {ret : Option FieldType} {ws : List Cond} {rm : Room} {Pc : Array Value → State → Prop} {Qc : Array Value → State → Outcome → State → Prop} {free : Addr → Prop} {Ts : List Cond} {own C : String} {cC : ClassId} {b : Addr} {As rest : List Value} {g : JFrame}
    (hat : ClassAt s C cC) (S : CallFix p m c cc nL s args Ts own) (hM : vd_Met l y ws rm Pc Qc mc ms free) (hbk : rm.cells = mc ∧ rm.slots = ms ∧ rm.frames + 1 ≤ R.frames ∧ 8 + (maxL + 11) + rm.locals ≤ R.locals ∧ (∀ w ∈ ws, ∀ (a' : Array Value) (U : State), s.WarmedH U.vm → w.before a' U = true) ∧ Cond.code y bytes maxL ret ∈ ws)
    (hlink : (Cond.methodLink own index x).before args s = true) (hsame : (Cond.sameMethod x.cls y.cls x.name x.desc).before args s = true) (hxy : y.name = x.name ∧ y.desc = x.desc) (hsup : (Cond.superclass own x.cls).before args s = true) (hlands : vd_lands s x.cls x y) (hinst : (Cond.instanceMethod y).before args s = true) (hcode : (Cond.code y bytes maxL ret).before args s = true) (hno : x.name ≠ "<init>")
    (hlen : ∀ sig, parseMethodDescriptor y.desc = some sig → n = sig.parameters.length) (hp : PreV s H C b Pc As)
    (hg : g.method = m) (hn : As.length = n) (hsize : g.locals.size = nL) (hstack : g.stack = As.reverse ++ .ref b :: rest) (hW : 2 * g.monitorRoom + (rest.map fun v => v.category).sum ≤ 8) (hdg : decode cc g.pc = .ok (.invokespecial index, 3)) (hf : cells + mc ≤ R.cells ∧ slots + ms ≤ R.slots) :
    va_Run p l e R s m args below meth c H locs cells slots mc ms g rest (Qc (Value.ref b :: As).toArray) (free) := by
  obtain ⟨hrc, hrs, hfr, hlo, hws, hcw⟩ := hbk
  have hK : Back l R p e below s args y 3 8 (PreOf R mc ms Pc) (PostOf Qc mc ms free) := vd_back (bytes := bytes) (maxL := maxL) (ret := ret) hM hp.1 hrc hrs hfr hlo hws hcw
  obtain ⟨hx0, hb, hml, ho, -⟩ := S
  obtain ⟨-, ⟨cellB, hcB, hoB, hclB⟩, hPc⟩ := hp
  obtain ⟨hfc, kB, hkB, -⟩ := hat
  cases hfc.symm.trans hclB
  intro T hT X
  obtain ⟨v, vm₁, ⟨U', l2, c2, s2⟩, hW₁, X', ⟨g', mk, t, L, e1, e2, hq, h1, hL, h2, h3⟩, st⟩ := vd_callSD X hx0 (bytes := bytes) (maxL := maxL) (ret := ret) ho hlink hsame hxy hsup hlands hinst hcode hno hK (by rw [hT]; exact hcB) hoB hkB hg (hsize.trans hml.symm) (argsL := As) (rest := rest) (fun sig h => hn.trans (hlen sig h)) hstack hW (by rw [hb]; exact hdg)
    (fun vm₁ hW₁ => ⟨hf.1, hf.2, hPc (T.setVm vm₁) hT hW₁⟩)
  dsimp only [Pt.U, Pt.locs, Pt.cells, Pt.slots] at X' e1 e2 h1 h2 h3 st
  subst h1; subst h2; subst h3
  exact ⟨v, (T.setVm vm₁).calling g' mk (Value.ref b :: As).toArray, t, U', L, hT, X', hL, e1, e2, hq, st⟩
end ZSD
section ZSE
variable {p : Program} {l : Launch} {e : Env} {R : Room} {s : State} {m : MethodId} {args : Array Value} {below : List Frame} {meth : Method} {c : Code} {Q : State → Prop} {nL : Nat} {D : va_G} {A : Nat → Prop} {cells slots : Nat} {cc : ByteArray} {own : String} {ret : Option FieldType} {B0 : Nat} {pc : Nat} {lv lv' : List (Nat × Value)} {st : List Value} {ws ws' wc wr : List va_W} {I : Heap → List Loc → Prop}
theorem zK.word {s : State} {args : Array Value} (k : zK B0 D s) {w : Cond} (hg : (w.onTables && w.keeps) = true) (h : ∀ (a : Array Value) (U : State), (Jvm.Cond.and given_1 narrow_1).before a U = true → w.before a U = true) : w.before args s = true := by
  obtain ⟨U0, b, h1, h2, -⟩ := k.2.2.2
  exact word_at h2 (Or.inl hg) (h _ _ h1.2.2.1)
theorem sel_same {s : State} {args : Array Value} {C owner : String} {x y : MethodName} (hs : (Cond.sameMethod x.cls owner x.name x.desc).before args s = true) (hn : owner ≠ "java/lang/invoke/MethodHandle" ∧ owner ≠ "java/lang/invoke/VarHandle") (h : (Cond.selects C ⟨owner, x.name, x.desc⟩ y).before args s = true) : (Cond.selects C x y).before args s = true := by
  obtain ⟨cn, ck, r1, hcn, hck, hni, hf, hn1⟩ := Cond.sameMethod_found hs
  have h2 : s.methodFound? owner x.name x.desc = some r1 := State.methodFound?_of_named (x := ⟨owner, x.name, x.desc⟩) hn1 hn
  simp only [Cond.before, Cond.holds, Cond.value] at h ⊢
  rw [hf]
  rw [h2] at h
  exact h

theorem z_cOSD {S : Type} {post : S → Prop} {val : S → Option Value} {y : MethodName} {bytes : ByteArray} {maxL n index b ci : Nat} {fs : List Value} {r : vw_C} {rety : Option FieldType} {rm : Room} {x : MethodName} (g : zG p s m args meth c cc nL own ret D B0) (o : zOK B0 D s ws I) (As rest : List Value) {st0 : List Value} (is : List Nat) (hM : vd_Met l y (ws_ y bytes maxL rety) rm (va_Pc (.ref b :: As) (zPreO B0 D wc)) (zQo post val) 0 0 (fun _ => False)) (q1 : (Cond.methodLink own index x).before args s = true) (qs : (Cond.sameMethod x.cls y.cls x.name x.desc).before args s = true) (hxy : y.name = x.name ∧ y.desc = x.desc) (qp : Cond.superclass own x.cls ∈ lw_all) (hL : vd_lands s x.cls x y) (q2 : Cond.instanceMethod y ∈ lw_all) (hno : x.name ≠ "<init>") (hd : zHd y n) (q5 : Cond.code y bytes maxL rety ∈ lw_all) (hm : (b, .inr (ci, fs)) ∈ ws.flatten) (hc : vwCl[ci]? = some r) (hrm : rm.cells = 0 ∧ rm.slots = 0) (hR : rm.frames + 1 ≤ R.frames ∧ 8 + (maxL + 11) + rm.locals ≤ R.locals) (hwc : zPick ws is = wc) (hn : As.length = n) (hst : st0 = As.reverse ++ .ref b :: rest) (hro : (rest.map fun v => v.category).sum ≤ 8) (hf : cells ≤ R.cells ∧ slots ≤ R.slots) (d : decode cc pc = .ok (.invokespecial index, 3)) (kk : ∀ u : S, post u → (zJ p l e R s m args below meth c Q nL (I) (cells) (slots) (pc + 3) (lv) ((val u).toList ++ rest))) : (zJ p l e R s m args below meth c Q nL (I) (cells) (slots) (pc) (lv) (st0)) :=
  z_obs (len := 0) o (fun H locs ls hI hl => vd_runSD (g.K.1 ci r hc).2 g.fix hM ⟨hrm.1, hrm.2, hR.1, hR.2, (z_gin q5 g.ts).1, (z_gin q5 g.ts).2⟩ q1 qs hxy (g.ts _ qp) hL (g.ts _ q2) (g.ts _ q5) hno (z_len hd.2.2) ⟨zPreO.blind, z_recv g.K (o H locs hI).1 hm hc, z_preo (y := y) g o hI is hwc⟩ rfl hn hl.1 hst (lv_room hro) d hf) kk
theorem z_cMSD {S : Type} {post : S → Prop} {val : S → Option Value} {w1 : S → List va_W} {mc ms : Nat} {y : MethodName} {bytes : ByteArray} {maxL n index b ci : Nat} {fs : List Value} {r : vw_C} {rety : Option FieldType} {rm : Room} {x : MethodName} (g : zG p s m args meth c cc nL own ret D B0) (hA : zA s A B0) (As rest : List Value) {st0 : List Value} (isC isR : List Nat) (hM : ∀ A1 : Nat → Prop, vd_Met l y (ws_ y bytes maxL rety) rm (va_Pc (.ref b :: As) (zPre B0 D A1 wc)) (zQ post val w1 D A1) mc ms A1) (q1 : (Cond.methodLink own index x).before args s = true) (qs : (Cond.sameMethod x.cls y.cls x.name x.desc).before args s = true) (hxy : y.name = x.name ∧ y.desc = x.desc) (qp : Cond.superclass own x.cls ∈ lw_all) (hL : vd_lands s x.cls x y) (q2 : Cond.instanceMethod y ∈ lw_all) (hno : x.name ≠ "<init>") (hd : zHd y n) (q5 : Cond.code y bytes maxL rety ∈ lw_all) (hm : (b, .inr (ci, fs)) ∈ ws.flatten) (hc : vwCl[ci]? = some r) (hrm : rm.cells = mc ∧ rm.slots = ms) (hR : rm.frames + 1 ≤ R.frames ∧ 8 + (maxL + 11) + rm.locals ≤ R.locals) (hwc : zPick ws isC = wc) (hwr : zPick ws isR = wr) (hperm : (isC ++ isR).isPerm (List.range ws.length) = true) (hn : As.length = n) (hst : st0 = As.reverse ++ .ref b :: rest) (hro : (rest.map fun v => v.category).sum ≤ 8) (hf : cells + mc ≤ R.cells ∧ slots + ms ≤ R.slots) (d : decode cc pc = .ok (.invokespecial index, 3)) (kk : ∀ u : S, post u → (zJ p l e R s m args below meth c Q nL (zI D A s (w1 u ++ wr)) (cells + mc) (slots + ms) (pc + 3) (lv) ((val u).toList ++ rest))) : (zJ p l e R s m args below meth c Q nL (zI D A s ws) (cells) (slots) (pc) (lv) (st0)) :=
  z_mut hA isC isR hwc hwr hperm (fun H locs ls hI hl => vd_runSD (g.K.1 ci r hc).2 g.fix (hM _) ⟨hrm.1, hrm.2, hR.1, hR.2, (z_gin q5 g.ts).1, (z_gin q5 g.ts).2⟩ q1 qs hxy (g.ts _ qp) hL (g.ts _ q2) (g.ts _ q5) hno (z_len hd.2.2) ⟨zPre.blind, z_recv g.K hI.1 hm hc, z_prem g hA hI isC isR hwc hwr hperm⟩ rfl hn hl.1 hst (lv_room hro) d hf) kk
theorem z_cOUB {S : Type} {post : S → Prop} {val : S → Option Value} {y : MethodName} {bytes : ByteArray} {maxL n index b ci : Nat} {fs : List Value} {r : vw_C} {rety : Option FieldType} {rm : Room} {x : MethodName} {owner : String} (g : zG p s m args meth c cc nL own ret D B0) (o : zOK B0 D s ws I) (As rest : List Value) {st0 : List Value} (is : List Nat) (hM : Met l y (ws_ y bytes maxL rety) rm (va_Pc (.ref b :: As) (zPreO B0 D wc)) (zQo post val) 0 0 (fun _ => False)) (q1 : (Cond.methodLink own index x).before args s = true) (qs : (Cond.sameMethod x.cls owner x.name x.desc).before args s = true) (hdc : va_Decl s ⟨owner, x.name, x.desc⟩) (q2 : Cond.instanceMethod y ∈ lw_all) (q3 : (Cond.selects r.1 x y).before args s = true) (q4 : Cond.initialized y.cls ∈ lw_all) (hd : owner ≠ "java/lang/invoke/MethodHandle" ∧ owner ≠ "java/lang/invoke/VarHandle" ∧ (parseMethodDescriptor x.desc).map (fun d => d.parameters.length) = some n) (q5 : Cond.code y bytes maxL rety ∈ lw_all) (hm : (b, .inr (ci, fs)) ∈ ws.flatten) (hc : vwCl[ci]? = some r) (hrm : rm.cells = 0 ∧ rm.slots = 0) (hR : rm.frames + 1 ≤ R.frames ∧ 8 + (maxL + 11) + rm.locals ≤ R.locals) (hwc : zPick ws is = wc) (hn : As.length = n) (hst : st0 = As.reverse ++ .ref b :: rest) (hro : (rest.map fun v => v.category).sum ≤ 8) (hf : cells ≤ R.cells ∧ slots ≤ R.slots) (d : decode cc pc = .ok (.invokevirtual index, 3)) (kk : ∀ u : S, post u → (zJ p l e R s m args below meth c Q nL (I) (cells) (slots) (pc + 3) (lv) ((val u).toList ++ rest))) : (zJ p l e R s m args below meth c Q nL (I) (cells) (slots) (pc) (lv) (st0)) :=
  z_obs (len := 0) o (fun H locs ls hI hl => va_runU g.fix hM ⟨⟨hrm.1, hrm.2, hR.1, hR.2, (z_gin q5 g.ts).1, (z_gin q5 g.ts).2⟩, g.ts _ q5, g.ts _ q4, ⟨hd.1, hd.2.1⟩, z_len hd.2.2, q1, qs, hdc, q3, g.ts _ q2⟩ ⟨zPreO.blind, z_recv g.K (o H locs hI).1 hm hc, z_preo (y := y) g o hI is hwc⟩ rfl hn hl.1 hst (lv_room hro) d hf) kk
theorem z_cMUB {S : Type} {post : S → Prop} {val : S → Option Value} {w1 : S → List va_W} {mc ms : Nat} {y : MethodName} {bytes : ByteArray} {maxL n index b ci : Nat} {fs : List Value} {r : vw_C} {rety : Option FieldType} {rm : Room} {x : MethodName} {owner : String} (g : zG p s m args meth c cc nL own ret D B0) (hA : zA s A B0) (As rest : List Value) {st0 : List Value} (isC isR : List Nat) (hM : ∀ A1 : Nat → Prop, Met l y (ws_ y bytes maxL rety) rm (va_Pc (.ref b :: As) (zPre B0 D A1 wc)) (zQ post val w1 D A1) mc ms A1) (q1 : (Cond.methodLink own index x).before args s = true) (qs : (Cond.sameMethod x.cls owner x.name x.desc).before args s = true) (hdc : va_Decl s ⟨owner, x.name, x.desc⟩) (q2 : Cond.instanceMethod y ∈ lw_all) (q3 : (Cond.selects r.1 x y).before args s = true) (q4 : Cond.initialized y.cls ∈ lw_all) (hd : owner ≠ "java/lang/invoke/MethodHandle" ∧ owner ≠ "java/lang/invoke/VarHandle" ∧ (parseMethodDescriptor x.desc).map (fun d => d.parameters.length) = some n) (q5 : Cond.code y bytes maxL rety ∈ lw_all) (hm : (b, .inr (ci, fs)) ∈ ws.flatten) (hc : vwCl[ci]? = some r) (hrm : rm.cells = mc ∧ rm.slots = ms) (hR : rm.frames + 1 ≤ R.frames ∧ 8 + (maxL + 11) + rm.locals ≤ R.locals) (hwc : zPick ws isC = wc) (hwr : zPick ws isR = wr) (hperm : (isC ++ isR).isPerm (List.range ws.length) = true) (hn : As.length = n) (hst : st0 = As.reverse ++ .ref b :: rest) (hro : (rest.map fun v => v.category).sum ≤ 8) (hf : cells + mc ≤ R.cells ∧ slots + ms ≤ R.slots) (d : decode cc pc = .ok (.invokevirtual index, 3)) (kk : ∀ u : S, post u → (zJ p l e R s m args below meth c Q nL (zI D A s (w1 u ++ wr)) (cells + mc) (slots + ms) (pc + 3) (lv) ((val u).toList ++ rest))) : (zJ p l e R s m args below meth c Q nL (zI D A s ws) (cells) (slots) (pc) (lv) (st0)) :=
  z_mut hA isC isR hwc hwr hperm (fun H locs ls hI hl => va_runU g.fix (hM _) ⟨⟨hrm.1, hrm.2, hR.1, hR.2, (z_gin q5 g.ts).1, (z_gin q5 g.ts).2⟩, g.ts _ q5, g.ts _ q4, ⟨hd.1, hd.2.1⟩, z_len hd.2.2, q1, qs, hdc, q3, g.ts _ q2⟩ ⟨zPre.blind, z_recv g.K hI.1 hm hc, z_prem g hA hI isC isR hwc hwr hperm⟩ rfl hn hl.1 hst (lv_room hro) d hf) kk
end ZSE
