set_option maxRecDepth 100000
/-! A CAST THAT FAILS -/
theorem find_none {vm : Vm} {A : String} {ca : ClassId} {ka : Class} (h : vm.findClass A = some ca) (hk : vm.classes[ca]? = some ka) : ka.name = A ∧ ka.hidden = none ∧ ka.loader = none := by
  obtain ⟨hlt, hp, _⟩ := Array.findIdx?_eq_some_iff_getElem.mp h
  rw [Array.getElem?_eq_getElem hlt] at hk
  cases hk
  simp only [Bool.and_eq_true, beq_iff_eq, Option.isNone_iff_eq_none] at hp
  exact ⟨hp.1.1.1, hp.1.1.2, hp.2⟩
theorem home_of {vm : Vm} {A : String} {ca : ClassId} {ka : Class} (h : vm.findClass A = some ca) (hk : vm.classes[ca]? = some ka) (hp : packageOf A = "") (hm : (vm.modules.all fun m => m.loader.isSome || m.name == "java.base" || !(castPackages_1.any fun p => m.packages.contains p)) = true) :
    vm.home ka = "module java.base of loader 'bootstrap'" ∨ vm.home ka = "unnamed module of loader 'bootstrap'" := by
  obtain ⟨h1, h2, h3⟩ := find_none h hk
  unfold Vm.home
  rw [h3]
  cases e : vm.moduleOf ka with
  | none => exact Or.inr rfl
  | some m =>
    have hn : m.name = "java.base" := by
      unfold Vm.moduleOf at e
      split at e
      · have := List.find?_some e
        simpa using this
      · have h4 := List.find?_some e
        have h5 := List.mem_of_find?_eq_some e
        have h6 := List.all_eq_true.mp hm m h5
        simp only [Bool.and_eq_true, beq_iff_eq, h3] at h4
        rw [h1, hp] at h4
        simp only [h4.1, Option.isSome_none, Bool.false_or, Bool.or_eq_true, beq_iff_eq] at h6
        rcases h6 with h6 | h6
        · exact h6
        · exfalso
          simp only [castPackages_1, List.any_cons, h4.2, Bool.true_or, Bool.not_true] at h6
          cases h6
    left
    show ("module " ++ m.name) ++ " of loader " ++ "'bootstrap'" = _
    rw [hn]
    decide
theorem cast_text {vm : Vm} {A B : String} {ca cb : ClassId} {ka kb : Class} (h1 : vm.findClass A = some ca) (k1 : vm.classes[ca]? = some ka) (h2 : vm.findClass B = some cb) (k2 : vm.classes[cb]? = some kb) (hpa : packageOf A = "") (hpb : packageOf B = "") (hla : (dotted A).toList.length ≤ 18) (hlb : (dotted B).toList.length ≤ 18)
    (hm : (vm.modules.all fun m => m.loader.isSome || m.name == "java.base" || !(castPackages_1.any fun p => m.packages.contains p)) = true) : (stringBytes (stringToUtf16 (checkcast.message vm ka kb))).size ≤ 900 ∧ (checkcast.message vm ka kb == notModelled) = false := by
  have sa : ka.shown = dotted A := by obtain ⟨e1, e2, -⟩ := find_none h1 k1; simp only [Class.shown, e2, e1]
  have sb : kb.shown = dotted B := by obtain ⟨e1, e2, -⟩ := find_none h2 k2; simp only [Class.shown, e2, e1]
  have ha : (vm.home ka).toList.length ≤ 38 := by rcases home_of h1 k1 hpa hm with e | e <;> rw [e] <;> decide
  have hb : (vm.home kb).toList.length ≤ 38 := by rcases home_of h2 k2 hpb hm with e | e <;> rw [e] <;> decide
  have hh : (vm.homes ka kb).toList.length ≤ 128 := by
    unfold Vm.homes
    rw [sa, sb]
    have a1 : (toString " and ").toList.length = 5 := by decide
    have a2 : (toString " are in ").toList.length = 8 := by decide
    have a3 : (toString " is in ").toList.length = 7 := by decide
    have a4 : (toString "; ").toList.length = 2 := by decide
    split
    · show (toString (dotted A) ++ toString " and " ++ toString (dotted B) ++ toString " are in " ++ toString (vm.home ka)).toList.length ≤ 128
      simp only [String.toList_append, List.length_append, a1, a2]
      show (dotted A).toList.length + 5 + (dotted B).toList.length + 8 + (vm.home ka).toList.length ≤ 128
      omega
    · show (toString (dotted A) ++ toString " is in " ++ toString (vm.home ka) ++ toString "; " ++ toString (dotted B) ++ toString " is in " ++ toString (vm.home kb)).toList.length ≤ 128
      simp only [String.toList_append, List.length_append, a3, a4]
      show (dotted A).toList.length + 7 + (vm.home ka).toList.length + 2 + (dotted B).toList.length + 7 + (vm.home kb).toList.length ≤ 128
      omega
  have et : checkcast.message vm ka kb = toString "class " ++ toString (dotted A) ++ toString " cannot be cast to class " ++ toString (dotted B) ++ toString " (" ++ toString (vm.homes ka kb) ++ toString ")" := by
    unfold checkcast.message; rw [sa, sb]
  have hlen : (checkcast.message vm ka kb).toList.length ≤ 210 := by
    rw [et]
    have a1 : (toString "class ").toList.length = 6 := by decide
    have a2 : (toString " cannot be cast to class ").toList.length = 25 := by decide
    have a3 : (toString " (").toList.length = 2 := by decide
    have a4 : (toString ")").toList.length = 1 := by decide
    simp only [String.toList_append, List.length_append, a1, a2, a3, a4]
    show 6 + (dotted A).toList.length + 25 + (dotted B).toList.length + 2 + (vm.homes ka kb).toList.length + 1 ≤ 210
    omega
  constructor
  · have b1 := stringBytes_size_le (stringToUtf16 (checkcast.message vm ka kb))
    have b2 := utf16_size_le (checkcast.message vm ka kb)
    omega
  · rw [beq_eq_false_iff_ne]
    intro h
    have h2 := congrArg String.toList h
    rw [et] at h2
    simp only [String.toList_append] at h2
    have h4 : notModelled.toList = '\u0000' :: " a message that is not modelled".toList := by decide
    rw [h4, show (toString "class ").toList = 'c' :: "lass ".toList from by decide] at h2
    simp at h2
section ZCX
variable {p : Program} {l : Launch} {e : Env} {R : Room} {s : State} {m : MethodId} {args : Array Value} {below : List Frame} {meth : Method} {c : Code} {T : State} {locs : List Loc} {cells slots : Nat}
theorem vd_castX (X : Stand p l e R s m args below meth c T locs cells slots) (hexec : p.tables.exec = Jvm.exec) {own name : String} {index : Nat} (hown : s.vm.findClass own = some m.cls) (hlink : (Cond.classLink own index name).before args s = true)
    {a : Addr} {cell : Cell} {cT : ClassId} {ks : Class} (hcell : T.heap[a]? = some cell) (hobj : ∀ k, cell.vm ≠ .statics k) (hks : s.vm.classes[cell.cls]? = some ks) (hcT : s.vm.findClass name = some cT) (hasg : s.vm.assignable cell.cls cT = false)
    {g : JFrame} (hg : g.method = m) {rest : List Value} (hstack : g.stack = .ref a :: rest) (hdg : decode c.code g.pc = .ok (.checkcast index, 3)) :
    ∃ (vm' : Vm) (ks' kt' : Class), s.WarmedH vm' ∧ vm'.classes[cell.cls]? = some ks' ∧ vm'.classes[cT]? = some kt' ∧ Stand p l e R s m args below meth c (T.setVm vm') locs cells slots ∧
      ∀ target, Steps p.tables e below (((T.setVm vm').setTop g).pushFrame (.throwNew "java/lang/ClassCastException" (some (checkcast.message vm' ks' kt')) none)) target → Steps p.tables e below (T.setTop g) target := by
  have hpl : e.platform.magicAccessors = ({} : Platform).magicAccessors := by rw [X.admits.platform]
  obtain ⟨c', hc', hcl⟩ := Cond.classLink_spec hown hlink e.platform hpl
  cases hcT.symm.trans hc'
  obtain ⟨dk, _, _, kt, hd, _, _, _, _, hkt, _, hopen⟩ := hcl.here
  have hcl₀ := X.warmed.classLinks hcl
  have hW' : s.WarmedH (T.vm.noted m.cls index (.cls cT)) := X.warmed.noted hd hopen (State.rightAt_cls hcl)
  obtain ⟨ks', hks', -⟩ := hW'.alike.2.2 _ _ hks
  obtain ⟨kt', hkt', -⟩ := hW'.alike.2.2 _ _ hkt
  refine ⟨_, ks', kt', hW', hks', hkt', X.noted hW', fun target hrest => ?_⟩
  subst hg
  jvm_step X.here [hexec, hdg, checkcast.wp_cold (e := e) (s := T) (f := g) X.here.top hstack (resolveClass_links e.toSetting hcl₀) hcl₀.ready,
    checkcast.wp_ready (e := e) (s := T.setVm (T.vm.noted g.method.cls index (.cls cT))) (f := g) X.here.top hcl₀.ready hstack]
  refine ⟨cell, hcell, hobj, ks', hks', kt', hkt', ?_⟩
  rw [if_neg (by rw [hW'.alike.assignable, hasg]; decide)]
  exact hrest
end ZCX
section ZCY
variable {p : Program} {l : Launch} {e : Env} {R : Room} {s : State} {m : MethodId} {args : Array Value} {below : List Frame} {meth : Method} {c : Code} {Q : State → Prop} {nL : Nat} {D : va_G} {A : Nat → Prop} {cells slots : Nat} {cc : ByteArray} {own : String} {ret : Option FieldType} {B0 : Nat} {pc : Nat} {lv lv' : List (Nat × Value)} {st : List Value} {ws ws' wc wr : List va_W} {I : Heap → List Loc → Prop}
theorem ex_cc : zEx (vx_atM "java/lang/ClassCastException" neN) "java/lang/ClassCastException" := zEx.of (by decide +kernel)
theorem zK.mods {s : State} (k : zK B0 D s) {vm' : Vm} (hW : s.WarmedH vm') : (vm'.modules.all fun m => m.loader.isSome || m.name == "java.base" || !(castPackages_1.any fun p => m.packages.contains p)) = true := by
  obtain ⟨U0, b, h1, h2, -⟩ := k.2.2.2
  have e1 : s.vm.modules = U0.vm.modules := (congrArg Vm.modules h2.alike.bare_eq : s.vm.bare.modules = U0.vm.bare.modules)
  have e2 : vm'.modules = s.vm.modules := (congrArg Vm.modules hW.alike.bare_eq : vm'.bare.modules = s.vm.bare.modules)
  rw [e2, e1]
  exact h1.2.2.2.1
theorem z_castX (g : zG p s m args meth c cc nL own ret D B0) (hA : zA s A B0) (hl : l.stackTraces = false) (hR : 6 < R.frames ∧ (st.map fun v => v.category).sum + 10241 ≤ R.locals) (hc3 : cells + 3 ≤ R.cells ∧ slots + 910 ≤ R.slots) {a ci index : Nat} {fs : List Value} {r : vw_C} {nm : String} (hm : (a, .inr (ci, fs)) ∈ ws.flatten) (hc : vwCl[ci]? = some r) (q1 : Cond.classLink own index nm ∈ lw_all) (hno : va_Nc r.1 nm s)
    (hp : packageOf r.1 = "" ∧ packageOf nm = "" ∧ (dotted r.1).toList.length ≤ 18 ∧ (dotted nm).toList.length ≤ 18) (d : decode cc pc = .ok (.checkcast index, 3)) (k : (zX p l e R s m args below meth c Q nL (zI D A s ws) (cells + 3) (slots + (900 + 10)) (pc) lv "java/lang/ClassCastException" (fun _ => True))) : (zJ p l e R s m args below meth c Q nL (zI D A s ws) (cells) (slots) (pc) (lv) (.ref a :: st)) := by
  intro H locs ls hI hlv T hT X
  obtain ⟨cell, h1, h2, h3⟩ := z_recv g.K hI.1 hm hc
  obtain ⟨c0, t0, f1, f2, f3⟩ := hno
  cases h3.symm.trans f1
  obtain ⟨ks, hks, -⟩ := Vm.findClass_spec h3
  obtain ⟨vm', ks', kt', hW, e1, e2, X', stp⟩ := vd_castX X g.1 g.ow (g.ts _ q1) (by rw [hT]; exact h1) (VmData.noStatics_of h2) hks f2 f3 (g := F0 m pc ls (.ref a :: st)) rfl rfl (by show decode c.code pc = _; rw [g.2.1]; exact d)
  obtain ⟨b1, b2⟩ := cast_text (A := r.1) (B := nm) (by rw [hW.alike.findClass]; exact h3) e1 (by rw [hW.alike.findClass]; exact f2) e2 hp.1 hp.2.1 hp.2.2.1 hp.2.2.2 (g.zk.mods hW)
  have hN := z_note (rest := .ref a :: st) g hA hl ex_cc ⟨by decide +kernel, by decide +kernel, by decide +kernel, by decide +kernel⟩ b2 b1 (by omega) ⟨by simp only [neN, List.length]; omega, by rw [List.map_cons, List.sum_cons]; show 1 + (st.map fun v => v.category).sum + 10240 ≤ R.locals; omega, by decide⟩ hc3 hI hlv k
  obtain ⟨t, s1, hq⟩ := hN (T.setVm vm') hT X'
  exact ⟨t, stp t s1, hq⟩
theorem z_castS (g : zG p s m args meth c cc nL own ret D B0) (o : zOK B0 D s ws I) {a ci index : Nat} {fs : List Value} {r : vw_C} (hm : (a, .inr (ci, fs)) ∈ ws.flatten) (hc : vwCl[ci]? = some r) (q1 : Cond.classLink own index r.1 ∈ lw_all) (d : decode cc pc = .ok (.checkcast index, 3)) (kk : (zJ p l e R s m args below meth c Q nL (I) (cells) (slots) (pc + 3) (lv) (.ref a :: st))) : (zJ p l e R s m args below meth c Q nL (I) (cells) (slots) (pc) (lv) (.ref a :: st)) := by
  have hf := (g.K.1 ci r hc).2.1
  refine z_castY g o hm hc q1 ?_ d kk
  simp only [va_Nw, Cond.before, Cond.holds, Cond.value, hf]
  rw [vb_asgS _ _ hf hf]; rfl
end ZCY
/-- a rider of kind k may be taken as one of kind t -/
def asP (k t : Nat) : Prop := t = 0 ∨ t = k ∨ (t = 1 ∧ k < 4) ∨ (t = 4 ∧ k = 5)

set_option maxHeartbeats 4000000 in
theorem met_X0_taken_2 (l : Launch) (D : va_G) (B0 : Nat) (v : Nat) (kk : Nat) (j : Nat) (t : Nat) (T : va_W) (hk1 : 1 ≤ kk) (hk5 : kk ≤ 5) (hv : (v, (Sum.inr (6 + kk, [Value.int (nI j)]) : va_E)) ∈ T) (ht : asP kk t) : Met l yX0_taken_2 (ws_ yX0_taken_2 cX0_taken_2 2 (some (.object "StepRiders$Rider"))) (zRm 1 0 0) (va_Pc [.ref v, .int (nI t)] (zPreO B0 D [T])) (zQo (S := Unit) (fun _ => True) (fun _ => some (.ref v))) 0 0 (fun _ => False) := by
  refine z_entryo (by decide +kernel) (Nat.le_of_ble_eq_true rfl) (fun pX eX sX mX argsX blX mtX cX QX hQX gX => ?_)
  refine z_eq (lv₂ := [(0, .ref v), (1, .int (nI t))]) (st₂ := []) ?_ rfl rfl
  rcases five hk1 hk5 with rfl | rfl | rfl | rfl | rfl
  · skip
    refine z_iload_n (pc := 0) gX 1 dX0_taken_2_0 rfl rfl ?_
    rcases (show t = 0 ∨ t = 1 by unfold asP at ht; omega) with rfl | rfl
    · skip
      refine z_tableIn (pc := 1) gX 36 dX0_taken_2_1 (by decide) (by decide) (by rfl) (by decide) ?_
      refine z_aload_n (pc := 36) gX 0 dX0_taken_2_36 rfl rfl ?_
      refine z_castY (pc := 37) gX (zIo_ok gX) (zpm 0 rfl hv) (ci := 7) rfl q1214 (gX.zk.cast q1714) dX0_taken_2_37 ?_
      exact z_areto gX hQX (by first | exact Or.inl ⟨_, rfl⟩ | exact Or.inr ⟨_, rfl⟩) (Or.inr ⟨_, rfl⟩) () trivial rfl dX0_taken_2_40
    · skip
      refine z_tableIn (pc := 1) gX 41 dX0_taken_2_1 (by decide) (by decide) (by rfl) (by decide) ?_
      refine z_aload_n (pc := 41) gX 0 dX0_taken_2_41 rfl rfl ?_
      refine z_castS (pc := 42) gX (zIo_ok gX) (zpm 0 rfl hv) (ci := 7) rfl q669 dX0_taken_2_42 ?_
      exact z_areto gX hQX (by first | exact Or.inl ⟨_, rfl⟩ | exact Or.inr ⟨_, rfl⟩) (Or.inr ⟨_, rfl⟩) () trivial rfl dX0_taken_2_45
  · skip
    refine z_iload_n (pc := 0) gX 1 dX0_taken_2_0 rfl rfl ?_
    rcases (show t = 0 ∨ t = 1 ∨ t = 2 by unfold asP at ht; omega) with rfl | rfl | rfl
    · skip
      refine z_tableIn (pc := 1) gX 36 dX0_taken_2_1 (by decide) (by decide) (by rfl) (by decide) ?_
      refine z_aload_n (pc := 36) gX 0 dX0_taken_2_36 rfl rfl ?_
      refine z_castY (pc := 37) gX (zIo_ok gX) (zpm 0 rfl hv) (ci := 8) rfl q1214 (gX.zk.cast q1716) dX0_taken_2_37 ?_
      exact z_areto gX hQX (by first | exact Or.inl ⟨_, rfl⟩ | exact Or.inr ⟨_, rfl⟩) (Or.inr ⟨_, rfl⟩) () trivial rfl dX0_taken_2_40
    · skip
      refine z_tableIn (pc := 1) gX 41 dX0_taken_2_1 (by decide) (by decide) (by rfl) (by decide) ?_
      refine z_aload_n (pc := 41) gX 0 dX0_taken_2_41 rfl rfl ?_
      refine z_castY (pc := 42) gX (zIo_ok gX) (zpm 0 rfl hv) (ci := 8) rfl q669 (gX.zk.cast q1718) dX0_taken_2_42 ?_
      exact z_areto gX hQX (by first | exact Or.inl ⟨_, rfl⟩ | exact Or.inr ⟨_, rfl⟩) (Or.inr ⟨_, rfl⟩) () trivial rfl dX0_taken_2_45
    · skip
      refine z_tableIn (pc := 1) gX 46 dX0_taken_2_1 (by decide) (by decide) (by rfl) (by decide) ?_
      refine z_aload_n (pc := 46) gX 0 dX0_taken_2_46 rfl rfl ?_
      refine z_castS (pc := 47) gX (zIo_ok gX) (zpm 0 rfl hv) (ci := 8) rfl q682 dX0_taken_2_47 ?_
      exact z_areto gX hQX (by first | exact Or.inl ⟨_, rfl⟩ | exact Or.inr ⟨_, rfl⟩) (Or.inr ⟨_, rfl⟩) () trivial rfl dX0_taken_2_50
  · skip
    refine z_iload_n (pc := 0) gX 1 dX0_taken_2_0 rfl rfl ?_
    rcases (show t = 0 ∨ t = 1 ∨ t = 3 by unfold asP at ht; omega) with rfl | rfl | rfl
    · skip
      refine z_tableIn (pc := 1) gX 36 dX0_taken_2_1 (by decide) (by decide) (by rfl) (by decide) ?_
      refine z_aload_n (pc := 36) gX 0 dX0_taken_2_36 rfl rfl ?_
      refine z_castY (pc := 37) gX (zIo_ok gX) (zpm 0 rfl hv) (ci := 9) rfl q1214 (gX.zk.cast q1713) dX0_taken_2_37 ?_
      exact z_areto gX hQX (by first | exact Or.inl ⟨_, rfl⟩ | exact Or.inr ⟨_, rfl⟩) (Or.inr ⟨_, rfl⟩) () trivial rfl dX0_taken_2_40
    · skip
      refine z_tableIn (pc := 1) gX 41 dX0_taken_2_1 (by decide) (by decide) (by rfl) (by decide) ?_
      refine z_aload_n (pc := 41) gX 0 dX0_taken_2_41 rfl rfl ?_
      refine z_castY (pc := 42) gX (zIo_ok gX) (zpm 0 rfl hv) (ci := 9) rfl q669 (gX.zk.cast q1717) dX0_taken_2_42 ?_
      exact z_areto gX hQX (by first | exact Or.inl ⟨_, rfl⟩ | exact Or.inr ⟨_, rfl⟩) (Or.inr ⟨_, rfl⟩) () trivial rfl dX0_taken_2_45
    · skip
      refine z_tableIn (pc := 1) gX 51 dX0_taken_2_1 (by decide) (by decide) (by rfl) (by decide) ?_
      refine z_aload_n (pc := 51) gX 0 dX0_taken_2_51 rfl rfl ?_
      refine z_castS (pc := 52) gX (zIo_ok gX) (zpm 0 rfl hv) (ci := 9) rfl q690 dX0_taken_2_52 ?_
      exact z_areto gX hQX (by first | exact Or.inl ⟨_, rfl⟩ | exact Or.inr ⟨_, rfl⟩) (Or.inr ⟨_, rfl⟩) () trivial rfl dX0_taken_2_55
  · skip
    refine z_iload_n (pc := 0) gX 1 dX0_taken_2_0 rfl rfl ?_
    rcases (show t = 0 ∨ t = 4 by unfold asP at ht; omega) with rfl | rfl
    · skip
      refine z_tableIn (pc := 1) gX 36 dX0_taken_2_1 (by decide) (by decide) (by rfl) (by decide) ?_
      refine z_aload_n (pc := 36) gX 0 dX0_taken_2_36 rfl rfl ?_
      refine z_castY (pc := 37) gX (zIo_ok gX) (zpm 0 rfl hv) (ci := 10) rfl q1214 (gX.zk.cast q1715) dX0_taken_2_37 ?_
      exact z_areto gX hQX (by first | exact Or.inl ⟨_, rfl⟩ | exact Or.inr ⟨_, rfl⟩) (Or.inr ⟨_, rfl⟩) () trivial rfl dX0_taken_2_40
    · skip
      refine z_tableIn (pc := 1) gX 56 dX0_taken_2_1 (by decide) (by decide) (by rfl) (by decide) ?_
      refine z_aload_n (pc := 56) gX 0 dX0_taken_2_56 rfl rfl ?_
      refine z_castS (pc := 57) gX (zIo_ok gX) (zpm 0 rfl hv) (ci := 10) rfl q698 dX0_taken_2_57 ?_
      exact z_areto gX hQX (by first | exact Or.inl ⟨_, rfl⟩ | exact Or.inr ⟨_, rfl⟩) (Or.inr ⟨_, rfl⟩) () trivial rfl dX0_taken_2_60
  · skip
    refine z_iload_n (pc := 0) gX 1 dX0_taken_2_0 rfl rfl ?_
    rcases (show t = 0 ∨ t = 4 ∨ t = 5 by unfold asP at ht; omega) with rfl | rfl | rfl
    · skip
      refine z_tableIn (pc := 1) gX 36 dX0_taken_2_1 (by decide) (by decide) (by rfl) (by decide) ?_
      refine z_aload_n (pc := 36) gX 0 dX0_taken_2_36 rfl rfl ?_
      refine z_castY (pc := 37) gX (zIo_ok gX) (zpm 0 rfl hv) (ci := 11) rfl q1214 (gX.zk.cast q1712) dX0_taken_2_37 ?_
      exact z_areto gX hQX (by first | exact Or.inl ⟨_, rfl⟩ | exact Or.inr ⟨_, rfl⟩) (Or.inr ⟨_, rfl⟩) () trivial rfl dX0_taken_2_40
    · skip
      refine z_tableIn (pc := 1) gX 56 dX0_taken_2_1 (by decide) (by decide) (by rfl) (by decide) ?_
      refine z_aload_n (pc := 56) gX 0 dX0_taken_2_56 rfl rfl ?_
      refine z_castY (pc := 57) gX (zIo_ok gX) (zpm 0 rfl hv) (ci := 11) rfl q698 (gX.zk.cast q1719) dX0_taken_2_57 ?_
      exact z_areto gX hQX (by first | exact Or.inl ⟨_, rfl⟩ | exact Or.inr ⟨_, rfl⟩) (Or.inr ⟨_, rfl⟩) () trivial rfl dX0_taken_2_60
    · skip
      refine z_tableOut (pc := 1) gX 61 dX0_taken_2_1 (by decide) (by decide) ?_
      refine z_aload_n (pc := 61) gX 0 dX0_taken_2_61 rfl rfl ?_
      refine z_castS (pc := 62) gX (zIo_ok gX) (zpm 0 rfl hv) (ci := 11) rfl q706 dX0_taken_2_62 ?_
      exact z_areto gX hQX (by first | exact Or.inl ⟨_, rfl⟩ | exact Or.inr ⟨_, rfl⟩) (Or.inr ⟨_, rfl⟩) () trivial rfl dX0_taken_2_65
theorem hd_X0_taken_2 : zHd yX0_taken_2 2 := by unfold zHd; decide +kernel

set_option maxHeartbeats 4000000 in
theorem met_X0_taken_2X (l : Launch) (D : va_G) (B0 : Nat) (A : Nat → Prop) (v : Nat) (kk : Nat) (j : Nat) (t : Nat) (T : va_W) (hk1 : 1 ≤ kk) (hk5 : kk ≤ 5) (hv : (v, (Sum.inr (6 + kk, [Value.int (nI j)]) : va_E)) ∈ T) (hl : l.stackTraces = false) (ht5 : t ≤ 5) (ht : ¬ asP kk t) : vz_Met l yX0_taken_2 (ws_ yX0_taken_2 cX0_taken_2 2 (some (.object "StepRiders$Rider"))) (zRm 171 3 910) (va_Pc [.ref v, .int (nI t)] (zPre B0 D A [T])) (zQ (S := Unit) (fun _ => False) (fun _ => none) (fun _ => []) D A) (zXC (S := Unit) (fun q_ E_ => fun _ => E_ = "java/lang/ClassCastException" ∧ True) (fun _ => [T]) D A) 3 910 A := by
  refine z_xentry (by decide +kernel) (Nat.le_of_ble_eq_true rfl) (fun pX eX sX mX argsX blX mtX cX QX hQX gX hAX hnm htX => ?_)
  refine z_eq (lv₂ := [(0, .ref v), (1, .int (nI t))]) (st₂ := []) ?_ rfl rfl
  rcases five hk1 hk5 with rfl | rfl | rfl | rfl | rfl
  · skip
    refine z_iload_n (pc := 0) gX 1 dX0_taken_2_0 rfl rfl ?_
    rcases (show t = 2 ∨ t = 3 ∨ t = 4 ∨ t = 5 by unfold asP at ht; omega) with rfl | rfl | rfl | rfl
    · skip
      refine z_tableIn (pc := 1) gX 46 dX0_taken_2_1 (by decide) (by decide) (by rfl) (by decide) ?_
      refine z_aload_n (pc := 46) gX 0 dX0_taken_2_46 rfl rfl ?_
      refine z_castX (pc := 47) gX hAX hl ⟨by first | decide | (simp only [zRm]; omega), by first | decide | (simp only [zRm]; omega)⟩ ⟨by first | decide | (simp only [zRm]; omega), by first | decide | (simp only [zRm]; omega)⟩ (zpm 0 rfl hv) (ci := 7) rfl q682 (gX.zk.nc (fun _ _ h => flat_of_before _ h _ (by decide +kernel))) ⟨by decide +kernel, by decide +kernel, by decide +kernel, by decide +kernel⟩ dX0_taken_2_47 ?_
      exact z_xout gX hQX (htX _) (fun _ => ()) (fun _ _ => ⟨rfl, trivial⟩) (fun _ => rfl) (by first | decide | omega) (by first | decide | omega)
    · skip
      refine z_tableIn (pc := 1) gX 51 dX0_taken_2_1 (by decide) (by decide) (by rfl) (by decide) ?_
      refine z_aload_n (pc := 51) gX 0 dX0_taken_2_51 rfl rfl ?_
      refine z_castX (pc := 52) gX hAX hl ⟨by first | decide | (simp only [zRm]; omega), by first | decide | (simp only [zRm]; omega)⟩ ⟨by first | decide | (simp only [zRm]; omega), by first | decide | (simp only [zRm]; omega)⟩ (zpm 0 rfl hv) (ci := 7) rfl q690 (gX.zk.nc (fun _ _ h => flat_of_before _ h _ (by decide +kernel))) ⟨by decide +kernel, by decide +kernel, by decide +kernel, by decide +kernel⟩ dX0_taken_2_52 ?_
      exact z_xout gX hQX (htX _) (fun _ => ()) (fun _ _ => ⟨rfl, trivial⟩) (fun _ => rfl) (by first | decide | omega) (by first | decide | omega)
    · skip
      refine z_tableIn (pc := 1) gX 56 dX0_taken_2_1 (by decide) (by decide) (by rfl) (by decide) ?_
      refine z_aload_n (pc := 56) gX 0 dX0_taken_2_56 rfl rfl ?_
      refine z_castX (pc := 57) gX hAX hl ⟨by first | decide | (simp only [zRm]; omega), by first | decide | (simp only [zRm]; omega)⟩ ⟨by first | decide | (simp only [zRm]; omega), by first | decide | (simp only [zRm]; omega)⟩ (zpm 0 rfl hv) (ci := 7) rfl q698 (gX.zk.nc (fun _ _ h => flat_of_before _ h _ (by decide +kernel))) ⟨by decide +kernel, by decide +kernel, by decide +kernel, by decide +kernel⟩ dX0_taken_2_57 ?_
      exact z_xout gX hQX (htX _) (fun _ => ()) (fun _ _ => ⟨rfl, trivial⟩) (fun _ => rfl) (by first | decide | omega) (by first | decide | omega)
    · skip
      refine z_tableOut (pc := 1) gX 61 dX0_taken_2_1 (by decide) (by decide) ?_
      refine z_aload_n (pc := 61) gX 0 dX0_taken_2_61 rfl rfl ?_
      refine z_castX (pc := 62) gX hAX hl ⟨by first | decide | (simp only [zRm]; omega), by first | decide | (simp only [zRm]; omega)⟩ ⟨by first | decide | (simp only [zRm]; omega), by first | decide | (simp only [zRm]; omega)⟩ (zpm 0 rfl hv) (ci := 7) rfl q706 (gX.zk.nc (fun _ _ h => flat_of_before _ h _ (by decide +kernel))) ⟨by decide +kernel, by decide +kernel, by decide +kernel, by decide +kernel⟩ dX0_taken_2_62 ?_
      exact z_xout gX hQX (htX _) (fun _ => ()) (fun _ _ => ⟨rfl, trivial⟩) (fun _ => rfl) (by first | decide | omega) (by first | decide | omega)
  · skip
    refine z_iload_n (pc := 0) gX 1 dX0_taken_2_0 rfl rfl ?_
    rcases (show t = 3 ∨ t = 4 ∨ t = 5 by unfold asP at ht; omega) with rfl | rfl | rfl
    · skip
      refine z_tableIn (pc := 1) gX 51 dX0_taken_2_1 (by decide) (by decide) (by rfl) (by decide) ?_
      refine z_aload_n (pc := 51) gX 0 dX0_taken_2_51 rfl rfl ?_
      refine z_castX (pc := 52) gX hAX hl ⟨by first | decide | (simp only [zRm]; omega), by first | decide | (simp only [zRm]; omega)⟩ ⟨by first | decide | (simp only [zRm]; omega), by first | decide | (simp only [zRm]; omega)⟩ (zpm 0 rfl hv) (ci := 8) rfl q690 (gX.zk.nc (fun _ _ h => flat_of_before _ h _ (by decide +kernel))) ⟨by decide +kernel, by decide +kernel, by decide +kernel, by decide +kernel⟩ dX0_taken_2_52 ?_
      exact z_xout gX hQX (htX _) (fun _ => ()) (fun _ _ => ⟨rfl, trivial⟩) (fun _ => rfl) (by first | decide | omega) (by first | decide | omega)
    · skip
      refine z_tableIn (pc := 1) gX 56 dX0_taken_2_1 (by decide) (by decide) (by rfl) (by decide) ?_
      refine z_aload_n (pc := 56) gX 0 dX0_taken_2_56 rfl rfl ?_
      refine z_castX (pc := 57) gX hAX hl ⟨by first | decide | (simp only [zRm]; omega), by first | decide | (simp only [zRm]; omega)⟩ ⟨by first | decide | (simp only [zRm]; omega), by first | decide | (simp only [zRm]; omega)⟩ (zpm 0 rfl hv) (ci := 8) rfl q698 (gX.zk.nc (fun _ _ h => flat_of_before _ h _ (by decide +kernel))) ⟨by decide +kernel, by decide +kernel, by decide +kernel, by decide +kernel⟩ dX0_taken_2_57 ?_
      exact z_xout gX hQX (htX _) (fun _ => ()) (fun _ _ => ⟨rfl, trivial⟩) (fun _ => rfl) (by first | decide | omega) (by first | decide | omega)
    · skip
      refine z_tableOut (pc := 1) gX 61 dX0_taken_2_1 (by decide) (by decide) ?_
      refine z_aload_n (pc := 61) gX 0 dX0_taken_2_61 rfl rfl ?_
      refine z_castX (pc := 62) gX hAX hl ⟨by first | decide | (simp only [zRm]; omega), by first | decide | (simp only [zRm]; omega)⟩ ⟨by first | decide | (simp only [zRm]; omega), by first | decide | (simp only [zRm]; omega)⟩ (zpm 0 rfl hv) (ci := 8) rfl q706 (gX.zk.nc (fun _ _ h => flat_of_before _ h _ (by decide +kernel))) ⟨by decide +kernel, by decide +kernel, by decide +kernel, by decide +kernel⟩ dX0_taken_2_62 ?_
      exact z_xout gX hQX (htX _) (fun _ => ()) (fun _ _ => ⟨rfl, trivial⟩) (fun _ => rfl) (by first | decide | omega) (by first | decide | omega)
  · skip
    refine z_iload_n (pc := 0) gX 1 dX0_taken_2_0 rfl rfl ?_
    rcases (show t = 2 ∨ t = 4 ∨ t = 5 by unfold asP at ht; omega) with rfl | rfl | rfl
    · skip
      refine z_tableIn (pc := 1) gX 46 dX0_taken_2_1 (by decide) (by decide) (by rfl) (by decide) ?_
      refine z_aload_n (pc := 46) gX 0 dX0_taken_2_46 rfl rfl ?_
      refine z_castX (pc := 47) gX hAX hl ⟨by first | decide | (simp only [zRm]; omega), by first | decide | (simp only [zRm]; omega)⟩ ⟨by first | decide | (simp only [zRm]; omega), by first | decide | (simp only [zRm]; omega)⟩ (zpm 0 rfl hv) (ci := 9) rfl q682 (gX.zk.nc (fun _ _ h => flat_of_before _ h _ (by decide +kernel))) ⟨by decide +kernel, by decide +kernel, by decide +kernel, by decide +kernel⟩ dX0_taken_2_47 ?_
      exact z_xout gX hQX (htX _) (fun _ => ()) (fun _ _ => ⟨rfl, trivial⟩) (fun _ => rfl) (by first | decide | omega) (by first | decide | omega)
    · skip
      refine z_tableIn (pc := 1) gX 56 dX0_taken_2_1 (by decide) (by decide) (by rfl) (by decide) ?_
      refine z_aload_n (pc := 56) gX 0 dX0_taken_2_56 rfl rfl ?_
      refine z_castX (pc := 57) gX hAX hl ⟨by first | decide | (simp only [zRm]; omega), by first | decide | (simp only [zRm]; omega)⟩ ⟨by first | decide | (simp only [zRm]; omega), by first | decide | (simp only [zRm]; omega)⟩ (zpm 0 rfl hv) (ci := 9) rfl q698 (gX.zk.nc (fun _ _ h => flat_of_before _ h _ (by decide +kernel))) ⟨by decide +kernel, by decide +kernel, by decide +kernel, by decide +kernel⟩ dX0_taken_2_57 ?_
      exact z_xout gX hQX (htX _) (fun _ => ()) (fun _ _ => ⟨rfl, trivial⟩) (fun _ => rfl) (by first | decide | omega) (by first | decide | omega)
    · skip
      refine z_tableOut (pc := 1) gX 61 dX0_taken_2_1 (by decide) (by decide) ?_
      refine z_aload_n (pc := 61) gX 0 dX0_taken_2_61 rfl rfl ?_
      refine z_castX (pc := 62) gX hAX hl ⟨by first | decide | (simp only [zRm]; omega), by first | decide | (simp only [zRm]; omega)⟩ ⟨by first | decide | (simp only [zRm]; omega), by first | decide | (simp only [zRm]; omega)⟩ (zpm 0 rfl hv) (ci := 9) rfl q706 (gX.zk.nc (fun _ _ h => flat_of_before _ h _ (by decide +kernel))) ⟨by decide +kernel, by decide +kernel, by decide +kernel, by decide +kernel⟩ dX0_taken_2_62 ?_
      exact z_xout gX hQX (htX _) (fun _ => ()) (fun _ _ => ⟨rfl, trivial⟩) (fun _ => rfl) (by first | decide | omega) (by first | decide | omega)
  · skip
    refine z_iload_n (pc := 0) gX 1 dX0_taken_2_0 rfl rfl ?_
    rcases (show t = 1 ∨ t = 2 ∨ t = 3 ∨ t = 5 by unfold asP at ht; omega) with rfl | rfl | rfl | rfl
    · skip
      refine z_tableIn (pc := 1) gX 41 dX0_taken_2_1 (by decide) (by decide) (by rfl) (by decide) ?_
      refine z_aload_n (pc := 41) gX 0 dX0_taken_2_41 rfl rfl ?_
      refine z_castX (pc := 42) gX hAX hl ⟨by first | decide | (simp only [zRm]; omega), by first | decide | (simp only [zRm]; omega)⟩ ⟨by first | decide | (simp only [zRm]; omega), by first | decide | (simp only [zRm]; omega)⟩ (zpm 0 rfl hv) (ci := 10) rfl q669 (gX.zk.nc (fun _ _ h => flat_of_before _ h _ (by decide +kernel))) ⟨by decide +kernel, by decide +kernel, by decide +kernel, by decide +kernel⟩ dX0_taken_2_42 ?_
      exact z_xout gX hQX (htX _) (fun _ => ()) (fun _ _ => ⟨rfl, trivial⟩) (fun _ => rfl) (by first | decide | omega) (by first | decide | omega)
    · skip
      refine z_tableIn (pc := 1) gX 46 dX0_taken_2_1 (by decide) (by decide) (by rfl) (by decide) ?_
      refine z_aload_n (pc := 46) gX 0 dX0_taken_2_46 rfl rfl ?_
      refine z_castX (pc := 47) gX hAX hl ⟨by first | decide | (simp only [zRm]; omega), by first | decide | (simp only [zRm]; omega)⟩ ⟨by first | decide | (simp only [zRm]; omega), by first | decide | (simp only [zRm]; omega)⟩ (zpm 0 rfl hv) (ci := 10) rfl q682 (gX.zk.nc (fun _ _ h => flat_of_before _ h _ (by decide +kernel))) ⟨by decide +kernel, by decide +kernel, by decide +kernel, by decide +kernel⟩ dX0_taken_2_47 ?_
      exact z_xout gX hQX (htX _) (fun _ => ()) (fun _ _ => ⟨rfl, trivial⟩) (fun _ => rfl) (by first | decide | omega) (by first | decide | omega)
    · skip
      refine z_tableIn (pc := 1) gX 51 dX0_taken_2_1 (by decide) (by decide) (by rfl) (by decide) ?_
      refine z_aload_n (pc := 51) gX 0 dX0_taken_2_51 rfl rfl ?_
      refine z_castX (pc := 52) gX hAX hl ⟨by first | decide | (simp only [zRm]; omega), by first | decide | (simp only [zRm]; omega)⟩ ⟨by first | decide | (simp only [zRm]; omega), by first | decide | (simp only [zRm]; omega)⟩ (zpm 0 rfl hv) (ci := 10) rfl q690 (gX.zk.nc (fun _ _ h => flat_of_before _ h _ (by decide +kernel))) ⟨by decide +kernel, by decide +kernel, by decide +kernel, by decide +kernel⟩ dX0_taken_2_52 ?_
      exact z_xout gX hQX (htX _) (fun _ => ()) (fun _ _ => ⟨rfl, trivial⟩) (fun _ => rfl) (by first | decide | omega) (by first | decide | omega)
    · skip
      refine z_tableOut (pc := 1) gX 61 dX0_taken_2_1 (by decide) (by decide) ?_
      refine z_aload_n (pc := 61) gX 0 dX0_taken_2_61 rfl rfl ?_
      refine z_castX (pc := 62) gX hAX hl ⟨by first | decide | (simp only [zRm]; omega), by first | decide | (simp only [zRm]; omega)⟩ ⟨by first | decide | (simp only [zRm]; omega), by first | decide | (simp only [zRm]; omega)⟩ (zpm 0 rfl hv) (ci := 10) rfl q706 (gX.zk.nc (fun _ _ h => flat_of_before _ h _ (by decide +kernel))) ⟨by decide +kernel, by decide +kernel, by decide +kernel, by decide +kernel⟩ dX0_taken_2_62 ?_
      exact z_xout gX hQX (htX _) (fun _ => ()) (fun _ _ => ⟨rfl, trivial⟩) (fun _ => rfl) (by first | decide | omega) (by first | decide | omega)
  · skip
    refine z_iload_n (pc := 0) gX 1 dX0_taken_2_0 rfl rfl ?_
    rcases (show t = 1 ∨ t = 2 ∨ t = 3 by unfold asP at ht; omega) with rfl | rfl | rfl
    · skip
      refine z_tableIn (pc := 1) gX 41 dX0_taken_2_1 (by decide) (by decide) (by rfl) (by decide) ?_
      refine z_aload_n (pc := 41) gX 0 dX0_taken_2_41 rfl rfl ?_
      refine z_castX (pc := 42) gX hAX hl ⟨by first | decide | (simp only [zRm]; omega), by first | decide | (simp only [zRm]; omega)⟩ ⟨by first | decide | (simp only [zRm]; omega), by first | decide | (simp only [zRm]; omega)⟩ (zpm 0 rfl hv) (ci := 11) rfl q669 (gX.zk.nc (fun _ _ h => flat_of_before _ h _ (by decide +kernel))) ⟨by decide +kernel, by decide +kernel, by decide +kernel, by decide +kernel⟩ dX0_taken_2_42 ?_
      exact z_xout gX hQX (htX _) (fun _ => ()) (fun _ _ => ⟨rfl, trivial⟩) (fun _ => rfl) (by first | decide | omega) (by first | decide | omega)
    · skip
      refine z_tableIn (pc := 1) gX 46 dX0_taken_2_1 (by decide) (by decide) (by rfl) (by decide) ?_
      refine z_aload_n (pc := 46) gX 0 dX0_taken_2_46 rfl rfl ?_
      refine z_castX (pc := 47) gX hAX hl ⟨by first | decide | (simp only [zRm]; omega), by first | decide | (simp only [zRm]; omega)⟩ ⟨by first | decide | (simp only [zRm]; omega), by first | decide | (simp only [zRm]; omega)⟩ (zpm 0 rfl hv) (ci := 11) rfl q682 (gX.zk.nc (fun _ _ h => flat_of_before _ h _ (by decide +kernel))) ⟨by decide +kernel, by decide +kernel, by decide +kernel, by decide +kernel⟩ dX0_taken_2_47 ?_
      exact z_xout gX hQX (htX _) (fun _ => ()) (fun _ _ => ⟨rfl, trivial⟩) (fun _ => rfl) (by first | decide | omega) (by first | decide | omega)
    · skip
      refine z_tableIn (pc := 1) gX 51 dX0_taken_2_1 (by decide) (by decide) (by rfl) (by decide) ?_
      refine z_aload_n (pc := 51) gX 0 dX0_taken_2_51 rfl rfl ?_
      refine z_castX (pc := 52) gX hAX hl ⟨by first | decide | (simp only [zRm]; omega), by first | decide | (simp only [zRm]; omega)⟩ ⟨by first | decide | (simp only [zRm]; omega), by first | decide | (simp only [zRm]; omega)⟩ (zpm 0 rfl hv) (ci := 11) rfl q690 (gX.zk.nc (fun _ _ h => flat_of_before _ h _ (by decide +kernel))) ⟨by decide +kernel, by decide +kernel, by decide +kernel, by decide +kernel⟩ dX0_taken_2_52 ?_
      exact z_xout gX hQX (htX _) (fun _ => ()) (fun _ _ => ⟨rfl, trivial⟩) (fun _ => rfl) (by first | decide | omega) (by first | decide | omega)

theorem mSt_j {x : Nat → Int32} {n : Nat} (h : n ≤ 40) : mSt x (nI n) = upd x 0 0 := mSt_0 h
theorem mSt_k {x : Nat → Int32} : mSt x (-1000013) = upd x 0 3 := rfl
theorem asP_c {k t : Nat} {v : Int32} (h1 : 1 ≤ k) (h5 : k ≤ 5) (ht : t ≤ 5) (hv : v = nI k) : asP k t ↔ ((nI t = 0 ∨ nI t = v) ∨ (nI t = 1 ∧ v < 4) ∨ (nI t = 4 ∧ v = 5)) := by
  subst hv
  have hk : k = 1 ∨ k = 2 ∨ k = 3 ∨ k = 4 ∨ k = 5 := by omega
  have hq : t = 0 ∨ t = 1 ∨ t = 2 ∨ t = 3 ∨ t = 4 ∨ t = 5 := by omega
  unfold asP
  rcases hk with rfl | rfl | rfl | rfl | rfl <;> rcases hq with rfl | rfl | rfl | rfl | rfl | rfl <;> decide

set_option maxHeartbeats 4000000 in
theorem met_X0_as (l : Launch) (D : va_G) (B0 : Nat) (A : Nat → Prop) (o : Nat) (ad : Nat → Nat) (sa : Nat → Nat) (sb : Nat → Nat) (tr : Nat) (x : Nat → Int32) (da : Option Nat) (n : Nat) (ra : Nat → Nat) (md : Int32) (wn : Int32) (od : Nat → Int32) (c : Nat → Int32) (T : va_W) (k : Nat) (xm : Nat → Int32) (r : Int32) (w : Int32) (hS : sOK T da n k ra c) (hl : l.stackTraces = false) (hx3 : x 3 = xm 0) : Met l yX0_as (wsW_ yX0_as cX0_as 4 (some .int) [(23, 47, 48, 342)]) (zRm 175 3 910) (va_Pc [.ref o, .int r, .int w] (zPre B0 D A [cOb o ad (sa 0) (sb 0) tr x, thP D sa ((da, n, ra), (md, wn, od), c), T])) (zQ (S := Int32 × (Nat → Int32)) (fun u => (fun (r_ : Int32) (xm1 : Nat → Int32) => (r_, xm1) = mAs xm c r w) u.1 u.2) (fun u => (fun (r_ : Int32) (xm1 : Nat → Int32) => some (.int r_)) u.1 u.2) (fun u => (fun (r_ : Int32) (xm1 : Nat → Int32) => [cOb o ad (sa 0) (sb 0) tr (upd x 3 (xm1 0)), thP D sa ((da, n, ra), (md, wn, od), c), T]) u.1 u.2) D A) 3 910 A := by
  refine z_entryW (by decide +kernel) (Nat.le_of_ble_eq_true rfl) (fun pX eX sX mX argsX blX mtX cX QX hQX gX hAX hnm htabX => ?_)
  refine z_eq (lv₂ := [(0, .ref o), (1, .int r), (2, .int w)]) (st₂ := []) ?_ rfl rfl
  rcases hS with ⟨rfl, rfl, h16, h17⟩ | ⟨⟨d, rfl⟩, hG⟩
  · skip
    refine z_ws [cOb o ad (sa 0) (sb 0) tr x, [(sa 0, .inr (2, [.int (c 16), .int (c 1), .int (c 0), .int wn, .ref (sa 1), .ref (sa 2), .ref (sa 3), .ref (sa 4)]))], [(sa 1, .inr (16, [.int md, .ref (zEE D), .int (nI 0)]))], [(sa 2, .inl (D.1 100, 7, .inl (fun i_ => c (9 + i_))))], [(sa 3, .inl (D.1 100, 7, .inl (fun i_ => c (2 + i_))))], [(sa 4, .inl (D.1 100, 7, .inl od))], T] (List.Perm.refl _) ?_
    refine z_aload_n (pc := 0) gX 0 dX0_as_0 rfl rfl ?_
    refine z_iload_n (pc := 1) gX 1 dX0_as_1 rfl rfl ?_
    refine z_cOV (pc := 2) gX (zI_ok gX hAX) [.int r] [] [0, 1, 2] (met_X0_isRider l D B0 o ad sa sb tr x (c 16) (c 1) (c 0) wn md (zEE D) 0 r ) q947 q949 qs22 q47 q950 (zm 0 rfl) (ci := 0) rfl rfl hd_X0_isRider ⟨rfl, rfl⟩ ⟨(Nat.le_of_ble_eq_true rfl), (Nat.le_of_ble_eq_true rfl)⟩ rfl rfl rfl (Nat.le_of_ble_eq_true rfl) ⟨(Nat.le_of_ble_eq_true rfl), (Nat.le_of_ble_eq_true rfl)⟩ dX0_as_2 ?_
    intro _ hu2
    refine z_eq (lv₂ := [(0, .ref o), (1, .int r), (2, .int w)]) (st₂ := [.int (bI (mIn r 0 (nI 0 - 1)))]) ?_ rfl rfl
    refine z_top (bI (mIn r 0 (c 17 - 1))) (congrArg (fun z => bI (mIn r 0 (z - 1))) h17.symm) ?_
    refine z_if_eq (pc := 5) gX 20 dX0_as_5 (by decide) (fun c5 => ?_) (fun c5 => ?_)
    · skip
      have k5 : (mIn r 0 (c 17 - 1)) = false := bI_eq0 c5
      refine z_ldc (pc := 20) gX q350 dX0_as_20 ?_
      refine z_ws [cOb o ad (sa 0) (sb 0) tr x, thP D sa ((none, 0, ra), (md, wn, od), c), T] (List.Perm.refl _) ?_
      exact z_rim gX hQX (-1000001, xm) (by simp [mAs, inF h17]) rfl (by simp only [show upd x 3 (xm 0) = x by rw [← hx3]; exact upd_self _ _]) (by first | decide | omega) (by first | decide | omega) dX0_as_22
    · skip
      have k5 : (mIn r 0 (c 17 - 1)) = true := bI_ne0 c5
      exact absurd k5 (by rw [inF h17]; decide)
  · skip
    have hK := hG.k
    have hn1 := hG.1
    have hn7 := hG.2.1
    have h17 := hG.2.2.1
    have h16 := hG.2.2.2.1
    have hk4 := hG.2.2.2.2.1
    have hk12 := hG.2.2.2.2.2.1
    have hln := hG.2.2.2.2.2.2.1
    have hR := hG.2.2.2.2.2.2.2
    refine z_ws [cOb o ad (sa 0) (sb 0) tr x, [(sa 0, .inr (2, [.int (c 16), .int (c 1), .int (c 0), .int wn, .ref (sa 1), .ref (sa 2), .ref (sa 3), .ref (sa 4)]))], [(sa 1, .inr (16, [.int md, .ref d, .int (nI n)]))], [(sa 2, .inl (D.1 100, 7, .inl (fun i_ => c (9 + i_))))], [(sa 3, .inl (D.1 100, 7, .inl (fun i_ => c (2 + i_))))], [(sa 4, .inl (D.1 100, 7, .inl od))], [(d, .inl (D.1 104, 10, .inr (.inr (.inr (.inr (rF ra n))))))], T] (List.Perm.refl _) ?_
    refine z_aload_n (pc := 0) gX 0 dX0_as_0 rfl rfl ?_
    refine z_iload_n (pc := 1) gX 1 dX0_as_1 rfl rfl ?_
    refine z_cOV (pc := 2) gX (zI_ok gX hAX) [.int r] [] [0, 1, 2] (met_X0_isRider l D B0 o ad sa sb tr x (c 16) (c 1) (c 0) wn md d n r ) q947 q949 qs22 q47 q950 (zm 0 rfl) (ci := 0) rfl rfl hd_X0_isRider ⟨rfl, rfl⟩ ⟨(Nat.le_of_ble_eq_true rfl), (Nat.le_of_ble_eq_true rfl)⟩ rfl rfl rfl (Nat.le_of_ble_eq_true rfl) ⟨(Nat.le_of_ble_eq_true rfl), (Nat.le_of_ble_eq_true rfl)⟩ dX0_as_2 ?_
    intro _ hu2
    refine z_eq (lv₂ := [(0, .ref o), (1, .int r), (2, .int w)]) (st₂ := [.int (bI (mIn r 0 (nI n - 1)))]) ?_ rfl rfl
    refine z_top (bI (mIn r 0 (c 17 - 1))) (congrArg (fun z => bI (mIn r 0 (z - 1))) h17.symm) ?_
    refine z_if_eq (pc := 5) gX 20 dX0_as_5 (by decide) (fun c5 => ?_) (fun c5 => ?_)
    · skip
      have k5 : (mIn r 0 (c 17 - 1)) = false := bI_eq0 c5
      refine z_ldc (pc := 20) gX q350 dX0_as_20 ?_
      refine z_ws [cOb o ad (sa 0) (sb 0) tr x, thP D sa ((some d, n, ra), (md, wn, od), c), T] (List.Perm.refl _) ?_
      exact z_rim gX hQX (-1000001, xm) (by simp [mAs, k5]) rfl (by simp only [show upd x 3 (xm 0) = x by rw [← hx3]; exact upd_self _ _]) (by first | decide | omega) (by first | decide | omega) dX0_as_22
    · skip
      have k5 : (mIn r 0 (c 17 - 1)) = true := bI_ne0 c5
      obtain ⟨j, hj, rfl⟩ := riderN k5 h17 hn7
      refine z_iload_n (pc := 8) gX 2 dX0_as_8 rfl rfl ?_
      refine z_i2l (pc := 9) gX dX0_as_9 ?_
      refine z_lconst (pc := 10) gX 0 dX0_as_10 rfl ?_
      refine z_ldc2_w (pc := 11) gX q1251 dX0_as_11 ?_
      refine z_cOS (pc := 14) gX (zI_ok gX hAX) [.long w.toInt64, .long 0, .long 5] [] [] (met_X0_isIn l D B0 w.toInt64 0 5 ) q346 q347 q47 q348 hd_X0_isIn ⟨rfl, rfl⟩ ⟨(Nat.le_of_ble_eq_true rfl), (Nat.le_of_ble_eq_true rfl)⟩ rfl rfl rfl (Nat.le_of_ble_eq_true rfl) ⟨(Nat.le_of_ble_eq_true rfl), (Nat.le_of_ble_eq_true rfl)⟩ dX0_as_14 ?_
      intro _ hu14
      refine z_eq (lv₂ := [(0, .ref o), (1, .int (nI j)), (2, .int w)]) (st₂ := [.int (bI (lIn w.toInt64 0 5))]) ?_ rfl rfl
      refine z_top (bI (mIn w 0 5)) (congrArg bI (lIn_eq rfl (by decide) (by decide))) ?_
      refine z_if_ne (pc := 17) gX 23 dX0_as_17 (by decide) (fun c17 => ?_) (fun c17 => ?_)
      · skip
        have k17 : (mIn w 0 5) = true := bI_ne0 c17
        obtain ⟨t, ht5, rfl⟩ := mIn_nat k17 5 (by decide)
        refine z_aload_n (pc := 23) gX 0 dX0_as_23 rfl rfl ?_
        refine z_aload_n (pc := 24) gX 0 dX0_as_24 rfl rfl ?_
        refine z_get (pc := 25) gX (zI_ok gX hAX) (zm 0 rfl) (ci := 0) (C := RX0) (T := TX0) (N := 14) rfl in_X0 4 (by decide) q213 (fun _ h => h) (v := .ref (sa 0)) rfl dX0_as_25 ?_
        refine z_get (pc := 28) gX (zI_ok gX hAX) (zm 1 rfl) (ci := 2) (C := RX2) (T := TX2) (N := 8) rfl in_X2 4 (by decide) q160 (fun _ h => h) (v := .ref (sa 1)) rfl dX0_as_28 ?_
        refine z_iload_n (pc := 31) gX 1 dX0_as_31 rfl rfl ?_
        refine z_cOF (n := 1) (pc := 32) gX (zI_ok gX hAX) [.int (nI j)] [.ref o] [2, 6] (met_J2_get l D B0 (sa 1) md d n (rF ra n) j (ra j) (by first | assumption | omega) (by first | assumption | omega) (rF_lt hj)) q1213 q804 q802 q52 (gX.zk.face ⟨by decide +kernel, by decide +kernel⟩ q801 q800 q805 q803 q660) (by unfold zHd; decide +kernel) q806 (zm 2 rfl) (ci := 16) rfl ⟨rfl, rfl⟩ ⟨(Nat.le_of_ble_eq_true rfl), (Nat.le_of_ble_eq_true rfl)⟩ rfl rfl rfl (Nat.le_of_ble_eq_true rfl) ⟨(Nat.le_of_ble_eq_true rfl), (Nat.le_of_ble_eq_true rfl)⟩ dX0_as_32 ?_
        intro _ hu32
        refine z_eq (lv₂ := [(0, .ref o), (1, .int (nI j)), (2, .int (nI t))]) (st₂ := [.ref (ra j), .ref o]) ?_ rfl rfl
        obtain ⟨kk, hk1, hk5, hkd, hv⟩ := hR j hj
        have hac := asP_c (v := c (18 + j)) hk1 hk5 ht5 hkd
        by_cases hok : asP kk t
        · skip
          refine z_iload_n (pc := 37) gX 2 dX0_as_37 rfl rfl ?_
          rcases five hk1 hk5 with rfl | rfl | rfl | rfl | rfl
          · skip
            refine z_cOS (pc := 38) gX (zI_ok gX hAX) [.ref (ra j), .int (nI t)] [.ref o] [7] (met_X0_taken_2 l D B0 (ra j) 1 j t T (by decide) (by decide) hv hok) q1252 q1253 q47 q1254 hd_X0_taken_2 ⟨rfl, rfl⟩ ⟨(Nat.le_of_ble_eq_true rfl), (Nat.le_of_ble_eq_true rfl)⟩ rfl rfl rfl (Nat.le_of_ble_eq_true rfl) ⟨(Nat.le_of_ble_eq_true rfl), (Nat.le_of_ble_eq_true rfl)⟩ dX0_as_38 ?_
            intro _ hu38
            refine z_eq (lv₂ := [(0, .ref o), (1, .int (nI j)), (2, .int (nI t))]) (st₂ := [.ref (ra j), .ref o]) ?_ rfl rfl
            refine z_cOU (n := 0) (pc := 41) gX (zI_ok gX hAX) [] [.ref o] [7] (met_X7_number_1 l D B0 (ra j) j T hv) (gX.ts _ q1255) (gX.ts _ q1701) (va_Decl.abs (gX.zk.decl q859)) q861 q1704 q72 ⟨by decide +kernel, by decide +kernel, by decide +kernel⟩ q862 (zpm 7 rfl hv) (ci := 7) rfl ⟨rfl, rfl⟩ ⟨(Nat.le_of_ble_eq_true rfl), (Nat.le_of_ble_eq_true rfl)⟩ rfl rfl rfl (Nat.le_of_ble_eq_true rfl) ⟨(Nat.le_of_ble_eq_true rfl), (Nat.le_of_ble_eq_true rfl)⟩ dX0_as_41 ?_
            intro _ hu41
            refine z_eq (lv₂ := [(0, .ref o), (1, .int (nI j)), (2, .int (nI t))]) (st₂ := [.int (nI j), .ref o]) ?_ rfl rfl
            refine z_cMV (pc := 44) gX hAX [.int (nI j)] [] [0] [1, 2, 3, 4, 5, 6, 7] (fun A1 => met_X0_well l D B0 A1 o ad sa sb tr x (nI j) ) q354 q356 qs2 q47 q357 (zm 0 rfl) (ci := 0) rfl rfl hd_X0_well ⟨rfl, rfl⟩ ⟨(Nat.le_of_ble_eq_true rfl), (Nat.le_of_ble_eq_true rfl)⟩ rfl rfl rfl rfl rfl (Nat.le_of_ble_eq_true rfl) ⟨(Nat.le_of_ble_eq_true rfl), (Nat.le_of_ble_eq_true rfl)⟩ dX0_as_44 ?_
            intro _ hu44
            refine z_re [0, 1, 2, 3, 4, 5, 6, 7] [cOb o ad (sa 0) (sb 0) tr (upd x 3 0), [(sa 0, .inr (2, [.int (c 16), .int (c 1), .int (c 0), .int wn, .ref (sa 1), .ref (sa 2), .ref (sa 3), .ref (sa 4)]))], [(sa 1, .inr (16, [.int md, .ref d, .int (nI n)]))], [(sa 2, .inl (D.1 100, 7, .inl (fun i_ => c (9 + i_))))], [(sa 3, .inl (D.1 100, 7, .inl (fun i_ => c (2 + i_))))], [(sa 4, .inl (D.1 100, 7, .inl od))], [(d, .inl (D.1 104, 10, .inr (.inr (.inr (.inr (rF ra n))))))], T] rfl rfl ?_
            refine z_eq (lv₂ := [(0, .ref o), (1, .int (nI j)), (2, .int (nI t))]) (st₂ := [.int (nI j)]) ?_ rfl rfl
            refine z_ws [cOb o ad (sa 0) (sb 0) tr (upd x 3 0), thP D sa ((some d, n, ra), (md, wn, od), c), T] (List.Perm.refl _) ?_
            exact z_rim gX hQX (nI j, mSt xm (nI j)) (by simp only [mAs, k5, k17, Bool.and_self, if_true, nI_clamp (show j < 2 ^ 31 by omega)]; rw [if_pos (hac.mp hok)]) rfl (by simp only [mSt_j (show j ≤ 40 by omega), pk_us]) (by first | decide | omega) (by first | decide | omega) dX0_as_47
          · skip
            refine z_cOS (pc := 38) gX (zI_ok gX hAX) [.ref (ra j), .int (nI t)] [.ref o] [7] (met_X0_taken_2 l D B0 (ra j) 2 j t T (by decide) (by decide) hv hok) q1252 q1253 q47 q1254 hd_X0_taken_2 ⟨rfl, rfl⟩ ⟨(Nat.le_of_ble_eq_true rfl), (Nat.le_of_ble_eq_true rfl)⟩ rfl rfl rfl (Nat.le_of_ble_eq_true rfl) ⟨(Nat.le_of_ble_eq_true rfl), (Nat.le_of_ble_eq_true rfl)⟩ dX0_as_38 ?_
            intro _ hu38
            refine z_eq (lv₂ := [(0, .ref o), (1, .int (nI j)), (2, .int (nI t))]) (st₂ := [.ref (ra j), .ref o]) ?_ rfl rfl
            refine z_cOU (n := 0) (pc := 41) gX (zI_ok gX hAX) [] [.ref o] [7] (met_X7_number_2 l D B0 (ra j) j T hv) (gX.ts _ q1255) (gX.ts _ q1701) (va_Decl.abs (gX.zk.decl q859)) q861 q1706 q72 ⟨by decide +kernel, by decide +kernel, by decide +kernel⟩ q862 (zpm 7 rfl hv) (ci := 8) rfl ⟨rfl, rfl⟩ ⟨(Nat.le_of_ble_eq_true rfl), (Nat.le_of_ble_eq_true rfl)⟩ rfl rfl rfl (Nat.le_of_ble_eq_true rfl) ⟨(Nat.le_of_ble_eq_true rfl), (Nat.le_of_ble_eq_true rfl)⟩ dX0_as_41 ?_
            intro _ hu41
            refine z_eq (lv₂ := [(0, .ref o), (1, .int (nI j)), (2, .int (nI t))]) (st₂ := [.int (nI j), .ref o]) ?_ rfl rfl
            refine z_cMV (pc := 44) gX hAX [.int (nI j)] [] [0] [1, 2, 3, 4, 5, 6, 7] (fun A1 => met_X0_well l D B0 A1 o ad sa sb tr x (nI j) ) q354 q356 qs2 q47 q357 (zm 0 rfl) (ci := 0) rfl rfl hd_X0_well ⟨rfl, rfl⟩ ⟨(Nat.le_of_ble_eq_true rfl), (Nat.le_of_ble_eq_true rfl)⟩ rfl rfl rfl rfl rfl (Nat.le_of_ble_eq_true rfl) ⟨(Nat.le_of_ble_eq_true rfl), (Nat.le_of_ble_eq_true rfl)⟩ dX0_as_44 ?_
            intro _ hu44
            refine z_re [0, 1, 2, 3, 4, 5, 6, 7] [cOb o ad (sa 0) (sb 0) tr (upd x 3 0), [(sa 0, .inr (2, [.int (c 16), .int (c 1), .int (c 0), .int wn, .ref (sa 1), .ref (sa 2), .ref (sa 3), .ref (sa 4)]))], [(sa 1, .inr (16, [.int md, .ref d, .int (nI n)]))], [(sa 2, .inl (D.1 100, 7, .inl (fun i_ => c (9 + i_))))], [(sa 3, .inl (D.1 100, 7, .inl (fun i_ => c (2 + i_))))], [(sa 4, .inl (D.1 100, 7, .inl od))], [(d, .inl (D.1 104, 10, .inr (.inr (.inr (.inr (rF ra n))))))], T] rfl rfl ?_
            refine z_eq (lv₂ := [(0, .ref o), (1, .int (nI j)), (2, .int (nI t))]) (st₂ := [.int (nI j)]) ?_ rfl rfl
            refine z_ws [cOb o ad (sa 0) (sb 0) tr (upd x 3 0), thP D sa ((some d, n, ra), (md, wn, od), c), T] (List.Perm.refl _) ?_
            exact z_rim gX hQX (nI j, mSt xm (nI j)) (by simp only [mAs, k5, k17, Bool.and_self, if_true, nI_clamp (show j < 2 ^ 31 by omega)]; rw [if_pos (hac.mp hok)]) rfl (by simp only [mSt_j (show j ≤ 40 by omega), pk_us]) (by first | decide | omega) (by first | decide | omega) dX0_as_47
          · skip
            refine z_cOS (pc := 38) gX (zI_ok gX hAX) [.ref (ra j), .int (nI t)] [.ref o] [7] (met_X0_taken_2 l D B0 (ra j) 3 j t T (by decide) (by decide) hv hok) q1252 q1253 q47 q1254 hd_X0_taken_2 ⟨rfl, rfl⟩ ⟨(Nat.le_of_ble_eq_true rfl), (Nat.le_of_ble_eq_true rfl)⟩ rfl rfl rfl (Nat.le_of_ble_eq_true rfl) ⟨(Nat.le_of_ble_eq_true rfl), (Nat.le_of_ble_eq_true rfl)⟩ dX0_as_38 ?_
            intro _ hu38
            refine z_eq (lv₂ := [(0, .ref o), (1, .int (nI j)), (2, .int (nI t))]) (st₂ := [.ref (ra j), .ref o]) ?_ rfl rfl
            refine z_cOU (n := 0) (pc := 41) gX (zI_ok gX hAX) [] [.ref o] [7] (met_X7_number_3 l D B0 (ra j) j T hv) (gX.ts _ q1255) (gX.ts _ q1701) (va_Decl.abs (gX.zk.decl q859)) q861 q1703 q72 ⟨by decide +kernel, by decide +kernel, by decide +kernel⟩ q862 (zpm 7 rfl hv) (ci := 9) rfl ⟨rfl, rfl⟩ ⟨(Nat.le_of_ble_eq_true rfl), (Nat.le_of_ble_eq_true rfl)⟩ rfl rfl rfl (Nat.le_of_ble_eq_true rfl) ⟨(Nat.le_of_ble_eq_true rfl), (Nat.le_of_ble_eq_true rfl)⟩ dX0_as_41 ?_
            intro _ hu41
            refine z_eq (lv₂ := [(0, .ref o), (1, .int (nI j)), (2, .int (nI t))]) (st₂ := [.int (nI j), .ref o]) ?_ rfl rfl
            refine z_cMV (pc := 44) gX hAX [.int (nI j)] [] [0] [1, 2, 3, 4, 5, 6, 7] (fun A1 => met_X0_well l D B0 A1 o ad sa sb tr x (nI j) ) q354 q356 qs2 q47 q357 (zm 0 rfl) (ci := 0) rfl rfl hd_X0_well ⟨rfl, rfl⟩ ⟨(Nat.le_of_ble_eq_true rfl), (Nat.le_of_ble_eq_true rfl)⟩ rfl rfl rfl rfl rfl (Nat.le_of_ble_eq_true rfl) ⟨(Nat.le_of_ble_eq_true rfl), (Nat.le_of_ble_eq_true rfl)⟩ dX0_as_44 ?_
            intro _ hu44
            refine z_re [0, 1, 2, 3, 4, 5, 6, 7] [cOb o ad (sa 0) (sb 0) tr (upd x 3 0), [(sa 0, .inr (2, [.int (c 16), .int (c 1), .int (c 0), .int wn, .ref (sa 1), .ref (sa 2), .ref (sa 3), .ref (sa 4)]))], [(sa 1, .inr (16, [.int md, .ref d, .int (nI n)]))], [(sa 2, .inl (D.1 100, 7, .inl (fun i_ => c (9 + i_))))], [(sa 3, .inl (D.1 100, 7, .inl (fun i_ => c (2 + i_))))], [(sa 4, .inl (D.1 100, 7, .inl od))], [(d, .inl (D.1 104, 10, .inr (.inr (.inr (.inr (rF ra n))))))], T] rfl rfl ?_
            refine z_eq (lv₂ := [(0, .ref o), (1, .int (nI j)), (2, .int (nI t))]) (st₂ := [.int (nI j)]) ?_ rfl rfl
            refine z_ws [cOb o ad (sa 0) (sb 0) tr (upd x 3 0), thP D sa ((some d, n, ra), (md, wn, od), c), T] (List.Perm.refl _) ?_
            exact z_rim gX hQX (nI j, mSt xm (nI j)) (by simp only [mAs, k5, k17, Bool.and_self, if_true, nI_clamp (show j < 2 ^ 31 by omega)]; rw [if_pos (hac.mp hok)]) rfl (by simp only [mSt_j (show j ≤ 40 by omega), pk_us]) (by first | decide | omega) (by first | decide | omega) dX0_as_47
          · skip
            refine z_cOS (pc := 38) gX (zI_ok gX hAX) [.ref (ra j), .int (nI t)] [.ref o] [7] (met_X0_taken_2 l D B0 (ra j) 4 j t T (by decide) (by decide) hv hok) q1252 q1253 q47 q1254 hd_X0_taken_2 ⟨rfl, rfl⟩ ⟨(Nat.le_of_ble_eq_true rfl), (Nat.le_of_ble_eq_true rfl)⟩ rfl rfl rfl (Nat.le_of_ble_eq_true rfl) ⟨(Nat.le_of_ble_eq_true rfl), (Nat.le_of_ble_eq_true rfl)⟩ dX0_as_38 ?_
            intro _ hu38
            refine z_eq (lv₂ := [(0, .ref o), (1, .int (nI j)), (2, .int (nI t))]) (st₂ := [.ref (ra j), .ref o]) ?_ rfl rfl
            refine z_cOU (n := 0) (pc := 41) gX (zI_ok gX hAX) [] [.ref o] [7] (met_X7_number_4 l D B0 (ra j) j T hv) (gX.ts _ q1255) (gX.ts _ q1701) (va_Decl.abs (gX.zk.decl q859)) q861 q1705 q72 ⟨by decide +kernel, by decide +kernel, by decide +kernel⟩ q862 (zpm 7 rfl hv) (ci := 10) rfl ⟨rfl, rfl⟩ ⟨(Nat.le_of_ble_eq_true rfl), (Nat.le_of_ble_eq_true rfl)⟩ rfl rfl rfl (Nat.le_of_ble_eq_true rfl) ⟨(Nat.le_of_ble_eq_true rfl), (Nat.le_of_ble_eq_true rfl)⟩ dX0_as_41 ?_
            intro _ hu41
            refine z_eq (lv₂ := [(0, .ref o), (1, .int (nI j)), (2, .int (nI t))]) (st₂ := [.int (nI j), .ref o]) ?_ rfl rfl
            refine z_cMV (pc := 44) gX hAX [.int (nI j)] [] [0] [1, 2, 3, 4, 5, 6, 7] (fun A1 => met_X0_well l D B0 A1 o ad sa sb tr x (nI j) ) q354 q356 qs2 q47 q357 (zm 0 rfl) (ci := 0) rfl rfl hd_X0_well ⟨rfl, rfl⟩ ⟨(Nat.le_of_ble_eq_true rfl), (Nat.le_of_ble_eq_true rfl)⟩ rfl rfl rfl rfl rfl (Nat.le_of_ble_eq_true rfl) ⟨(Nat.le_of_ble_eq_true rfl), (Nat.le_of_ble_eq_true rfl)⟩ dX0_as_44 ?_
            intro _ hu44
            refine z_re [0, 1, 2, 3, 4, 5, 6, 7] [cOb o ad (sa 0) (sb 0) tr (upd x 3 0), [(sa 0, .inr (2, [.int (c 16), .int (c 1), .int (c 0), .int wn, .ref (sa 1), .ref (sa 2), .ref (sa 3), .ref (sa 4)]))], [(sa 1, .inr (16, [.int md, .ref d, .int (nI n)]))], [(sa 2, .inl (D.1 100, 7, .inl (fun i_ => c (9 + i_))))], [(sa 3, .inl (D.1 100, 7, .inl (fun i_ => c (2 + i_))))], [(sa 4, .inl (D.1 100, 7, .inl od))], [(d, .inl (D.1 104, 10, .inr (.inr (.inr (.inr (rF ra n))))))], T] rfl rfl ?_
            refine z_eq (lv₂ := [(0, .ref o), (1, .int (nI j)), (2, .int (nI t))]) (st₂ := [.int (nI j)]) ?_ rfl rfl
            refine z_ws [cOb o ad (sa 0) (sb 0) tr (upd x 3 0), thP D sa ((some d, n, ra), (md, wn, od), c), T] (List.Perm.refl _) ?_
            exact z_rim gX hQX (nI j, mSt xm (nI j)) (by simp only [mAs, k5, k17, Bool.and_self, if_true, nI_clamp (show j < 2 ^ 31 by omega)]; rw [if_pos (hac.mp hok)]) rfl (by simp only [mSt_j (show j ≤ 40 by omega), pk_us]) (by first | decide | omega) (by first | decide | omega) dX0_as_47
          · skip
            refine z_cOS (pc := 38) gX (zI_ok gX hAX) [.ref (ra j), .int (nI t)] [.ref o] [7] (met_X0_taken_2 l D B0 (ra j) 5 j t T (by decide) (by decide) hv hok) q1252 q1253 q47 q1254 hd_X0_taken_2 ⟨rfl, rfl⟩ ⟨(Nat.le_of_ble_eq_true rfl), (Nat.le_of_ble_eq_true rfl)⟩ rfl rfl rfl (Nat.le_of_ble_eq_true rfl) ⟨(Nat.le_of_ble_eq_true rfl), (Nat.le_of_ble_eq_true rfl)⟩ dX0_as_38 ?_
            intro _ hu38
            refine z_eq (lv₂ := [(0, .ref o), (1, .int (nI j)), (2, .int (nI t))]) (st₂ := [.ref (ra j), .ref o]) ?_ rfl rfl
            refine z_cOU (n := 0) (pc := 41) gX (zI_ok gX hAX) [] [.ref o] [7] (met_X7_number_5 l D B0 (ra j) j T hv) (gX.ts _ q1255) (gX.ts _ q1701) (va_Decl.abs (gX.zk.decl q859)) q861 q1702 q72 ⟨by decide +kernel, by decide +kernel, by decide +kernel⟩ q862 (zpm 7 rfl hv) (ci := 11) rfl ⟨rfl, rfl⟩ ⟨(Nat.le_of_ble_eq_true rfl), (Nat.le_of_ble_eq_true rfl)⟩ rfl rfl rfl (Nat.le_of_ble_eq_true rfl) ⟨(Nat.le_of_ble_eq_true rfl), (Nat.le_of_ble_eq_true rfl)⟩ dX0_as_41 ?_
            intro _ hu41
            refine z_eq (lv₂ := [(0, .ref o), (1, .int (nI j)), (2, .int (nI t))]) (st₂ := [.int (nI j), .ref o]) ?_ rfl rfl
            refine z_cMV (pc := 44) gX hAX [.int (nI j)] [] [0] [1, 2, 3, 4, 5, 6, 7] (fun A1 => met_X0_well l D B0 A1 o ad sa sb tr x (nI j) ) q354 q356 qs2 q47 q357 (zm 0 rfl) (ci := 0) rfl rfl hd_X0_well ⟨rfl, rfl⟩ ⟨(Nat.le_of_ble_eq_true rfl), (Nat.le_of_ble_eq_true rfl)⟩ rfl rfl rfl rfl rfl (Nat.le_of_ble_eq_true rfl) ⟨(Nat.le_of_ble_eq_true rfl), (Nat.le_of_ble_eq_true rfl)⟩ dX0_as_44 ?_
            intro _ hu44
            refine z_re [0, 1, 2, 3, 4, 5, 6, 7] [cOb o ad (sa 0) (sb 0) tr (upd x 3 0), [(sa 0, .inr (2, [.int (c 16), .int (c 1), .int (c 0), .int wn, .ref (sa 1), .ref (sa 2), .ref (sa 3), .ref (sa 4)]))], [(sa 1, .inr (16, [.int md, .ref d, .int (nI n)]))], [(sa 2, .inl (D.1 100, 7, .inl (fun i_ => c (9 + i_))))], [(sa 3, .inl (D.1 100, 7, .inl (fun i_ => c (2 + i_))))], [(sa 4, .inl (D.1 100, 7, .inl od))], [(d, .inl (D.1 104, 10, .inr (.inr (.inr (.inr (rF ra n))))))], T] rfl rfl ?_
            refine z_eq (lv₂ := [(0, .ref o), (1, .int (nI j)), (2, .int (nI t))]) (st₂ := [.int (nI j)]) ?_ rfl rfl
            refine z_ws [cOb o ad (sa 0) (sb 0) tr (upd x 3 0), thP D sa ((some d, n, ra), (md, wn, od), c), T] (List.Perm.refl _) ?_
            exact z_rim gX hQX (nI j, mSt xm (nI j)) (by simp only [mAs, k5, k17, Bool.and_self, if_true, nI_clamp (show j < 2 ^ 31 by omega)]; rw [if_pos (hac.mp hok)]) rfl (by simp only [mSt_j (show j ≤ 40 by omega), pk_us]) (by first | decide | omega) (by first | decide | omega) dX0_as_47
        · skip
          refine z_iload_n (pc := 37) gX 2 dX0_as_37 rfl rfl ?_
          refine z_xS (pc := 38) gX hAX [.ref (ra j), .int (nI t)] [.ref o] [7] [0, 1, 2, 3, 4, 5, 6] (fun A1 => met_X0_taken_2X l D B0 A1 (ra j) kk j t T (by first | assumption | omega) (by first | assumption | omega) hv hl ht5 hok) q1252 q1253 q47 q1254 hd_X0_taken_2 ⟨rfl, rfl⟩ ⟨(Nat.le_of_ble_eq_true rfl), (Nat.le_of_ble_eq_true rfl)⟩ rfl rfl rfl rfl rfl (Nat.le_of_ble_eq_true rfl) ⟨(Nat.le_of_ble_eq_true rfl), (Nat.le_of_ble_eq_true rfl)⟩ dX0_as_38 (fun E_38 u_38 => ?_) (fun _ hF => hF.elim)
          refine z_xpx (E0 := "java/lang/ClassCastException") (PX1 := fun q_ => True) (fun _ h => h) ?_
          refine z_xper [1, 2, 3, 4, 5, 6, 7, 0] [cOb o ad (sa 0) (sb 0) tr x, [(sa 0, .inr (2, [.int (c 16), .int (c 1), .int (c 0), .int wn, .ref (sa 1), .ref (sa 2), .ref (sa 3), .ref (sa 4)]))], [(sa 1, .inr (16, [.int md, .ref d, .int (nI n)]))], [(sa 2, .inl (D.1 100, 7, .inl (fun i_ => c (9 + i_))))], [(sa 3, .inl (D.1 100, 7, .inl (fun i_ => c (2 + i_))))], [(sa 4, .inl (D.1 100, 7, .inl od))], [(d, .inl (D.1 104, 10, .inr (.inr (.inr (.inr (rF ra n))))))], T] rfl rfl ?_
          refine z_xcatch (E := "java/lang/ClassCastException") gX [(23, 47, 48, 342)] htabX [] ⟨23, 47, 48, 342⟩ [] rfl (fun _ h => absurd h List.not_mem_nil) (by decide) (by decide) q1237 (va_any rfl (gX.zk.cast q1249)) (fun x_38 hx_38 => ?_)
          refine z_astore_n (pc := 48) gX [1, 2, 3, 0] [(0, .ref o), (1, .int (nI j)), (2, .int (nI t)), (3, .ref x_38)] dX0_as_48 rfl (by decide) rfl ?_
          refine z_aload_n (pc := 49) gX 0 dX0_as_49 rfl rfl ?_
          refine z_iconst (pc := 50) gX 3 dX0_as_50 (by decide) ?_
          refine z_cMV (pc := 51) gX hAX [.int 3] [] [0] [1, 2, 3, 4, 5, 6, 7] (fun A1 => met_X0_found l D B0 A1 o ad sa sb tr x 3 ) q358 q360 qs3 q47 q361 (zm 0 rfl) (ci := 0) rfl rfl hd_X0_found ⟨rfl, rfl⟩ ⟨(Nat.le_of_ble_eq_true rfl), (Nat.le_of_ble_eq_true rfl)⟩ rfl rfl rfl rfl rfl (Nat.le_of_ble_eq_true rfl) ⟨(Nat.le_of_ble_eq_true rfl), (Nat.le_of_ble_eq_true rfl)⟩ dX0_as_51 ?_
          intro _ hu51
          refine z_re [0, 1, 2, 3, 4, 5, 6, 7] [cOb o ad (sa 0) (sb 0) tr (upd x 3 3), [(sa 0, .inr (2, [.int (c 16), .int (c 1), .int (c 0), .int wn, .ref (sa 1), .ref (sa 2), .ref (sa 3), .ref (sa 4)]))], [(sa 1, .inr (16, [.int md, .ref d, .int (nI n)]))], [(sa 2, .inl (D.1 100, 7, .inl (fun i_ => c (9 + i_))))], [(sa 3, .inl (D.1 100, 7, .inl (fun i_ => c (2 + i_))))], [(sa 4, .inl (D.1 100, 7, .inl od))], [(d, .inl (D.1 104, 10, .inr (.inr (.inr (.inr (rF ra n))))))], T] rfl rfl ?_
          refine z_eq (lv₂ := [(0, .ref o), (1, .int (nI j)), (2, .int (nI t)), (3, .ref x_38)]) (st₂ := [.int (-1000010 - 3)]) ?_ rfl rfl
          refine z_ws [cOb o ad (sa 0) (sb 0) tr (upd x 3 3), thP D sa ((some d, n, ra), (md, wn, od), c), T] (List.Perm.refl _) ?_
          exact z_rim gX hQX (-1000010 - 3, mSt xm (-1000013)) (by simp only [mAs, k5, k17, Bool.and_self, if_true, nI_clamp (show j < 2 ^ 31 by omega)]; rw [if_neg (fun h => hok (hac.mpr h))] <;> rfl) rfl (by simp only [mSt_k, pk_us] <;> rfl) (by first | decide | omega) (by first | decide | omega) dX0_as_54
      · skip
        have k17 : (mIn w 0 5) = false := bI_eq0 c17
        refine z_ldc (pc := 20) gX q350 dX0_as_20 ?_
        refine z_ws [cOb o ad (sa 0) (sb 0) tr x, thP D sa ((some d, n, ra), (md, wn, od), c), T] (List.Perm.refl _) ?_
        exact z_rim gX hQX (-1000001, xm) (by simp [mAs, k5, k17]) rfl (by simp only [show upd x 3 (xm 0) = x by rw [← hx3]; exact upd_self _ _]) (by first | decide | omega) (by first | decide | omega) dX0_as_22
theorem hd_X0_as : zHd yX0_as 2 := by unfold zHd; decide +kernel

