/-! THE Z LAYER: one judgement zJ: the machine at a pc with locals lv (a list), operand stack st, and a heap of which I holds; the rows of the kit as rules of it. A world is a list of segments (single cells, or opaque pools). -/
set_option maxRecDepth 100000
def TX15 : u_T := fun _ => ("StepRiders$Speeds", "", "", false)
def tyX15 : Nat → FieldType := fun _ => .int
theorem nmX15 : ∀ a, a < 0 → ∀ b, b < 0 → a ≠ b → (TX15 a).2.1 ≠ (TX15 b).2.1 := fun a h => absurd h (Nat.not_lt_zero a)
theorem tyX15_ok : ∀ k, k < 0 → parseFieldDescriptor (TX15 k).2.2.1 = some (tyX15 k) := fun k h => absurd h (Nat.not_lt_zero k)
theorem in_X15 : ∀ w ∈ u_ws RX15 TX15 0, w ∈ lw_all := fun w h => absurd h List.not_mem_nil
abbrev vwCl : List vw_C := [(RX0, TX0, 14), (RX1, TX1, 1), (RX2, TX2, 8), (RX3, TX3, 2), (RX4, TX4, 20), (RX5, TX5, 7), (RX6, TX6, 8), (RX8, TX8, 1), (RX9, TX9, 1), (RX10, TX10, 1), (RX11, TX11, 1), (RX12, TX12, 1), (RX13, TX13, 1), (RX14, TX14, 1), (RX16, TX16, 2), (RX17, TX17, 2), (RJ2, TJ2, 3), (RX15, TX15, 0)]
def zTy (D : va_G) : List (ClassId × FieldType) := [(D.1 100, .int), (D.1 101, .byte), (D.1 102, .short), (D.1 103, .boolean), (D.1 104, .object "java/lang/Object"), (D.1 105, .object "StepRiders$Shelf"), (D.1 106, .object "StepRiders$Stair")]
def zRm (d mc ms : Nat) : Room := { frames := d, cells := mc, slots := ms, locals := 64 * d }

/-- the links to private members of nest mates, as the tables have them -/
def zNl : List Cond := [(Jvm.Cond.methodLinkNest "StepRiders" (25 : Nat) ({ cls := "StepRiders$Shelf", name := "<init>", desc := "()V" } : Jvm.MethodName) "StepRiders"), (Jvm.Cond.fieldLinkNest "StepRiders" (96 : Nat) "StepRiders$Shelf" "held" "Ljava/lang/Object;" "StepRiders"), (Jvm.Cond.methodLinkNest "StepRiders" (45 : Nat) ({ cls := "StepRiders$Stair", name := "<init>", desc := "()V" } : Jvm.MethodName) "StepRiders"), (Jvm.Cond.methodLinkNest "StepRiders" (62 : Nat) ({ cls := "StepRiders$Trail", name := "<init>", desc := "()V" } : Jvm.MethodName) "StepRiders"), (Jvm.Cond.fieldLinkNest "StepRiders" (356 : Nat) "StepRiders$Trail" "body" "[I" "StepRiders"), (Jvm.Cond.fieldLinkNest "StepRiders" (354 : Nat) "StepRiders$Trail" "many" "I" "StepRiders"), (Jvm.Cond.fieldLinkNest "StepRiders$Has" (17 : Nat) "StepRiders" "stair" "LStepRiders$Stair;" "StepRiders"), (Jvm.Cond.fieldLinkNest "StepRiders$Starts" (34 : Nat) "StepRiders" "stair" "LStepRiders$Stair;" "StepRiders"), (Jvm.Cond.methodLinkNest "StepRiders" (109 : Nat) ({ cls := "StepRiders$Shelf", name := "put", desc := "(II)I" } : Jvm.MethodName) "StepRiders"), (Jvm.Cond.methodLinkNest "StepRiders" (127 : Nat) ({ cls := "StepRiders$Shelf", name := "many", desc := "()I" } : Jvm.MethodName) "StepRiders"), (Jvm.Cond.methodLinkNest "StepRiders$Reader" (11 : Nat) ({ cls := "StepRiders$Stair", name := "<init>", desc := "()V" } : Jvm.MethodName) "StepRiders"), (Jvm.Cond.methodLinkNest "StepRiders$Reader" (44 : Nat) ({ cls := "StepRiders", name := "isIn", desc := "(JJJ)Z" } : Jvm.MethodName) "StepRiders"), (Jvm.Cond.methodLinkNest "StepRiders$Reader" (114 : Nat) ({ cls := "StepRiders", name := "riderBy", desc := "(II)LStepRiders$Rider;" } : Jvm.MethodName) "StepRiders"), (Jvm.Cond.methodLinkNest "StepRiders$Stair" (80 : Nat) ({ cls := "StepRiders", name := "isIn", desc := "(JJJ)Z" } : Jvm.MethodName) "StepRiders"), (Jvm.Cond.methodLinkNest "StepRiders" (267 : Nat) ({ cls := "StepRiders$Speeds", name := "<init>", desc := "()V" } : Jvm.MethodName) "StepRiders"), (Jvm.Cond.methodLinkNest "StepRiders" (132 : Nat) ({ cls := "StepRiders$Shelf", name := "at", desc := "(I)I" } : Jvm.MethodName) "StepRiders"), (Jvm.Cond.methodLinkNest "StepRiders$Sorts" (21 : Nat) ({ cls := "StepRiders", name := "riderBy", desc := "(II)LStepRiders$Rider;" } : Jvm.MethodName) "StepRiders")]
def zN (U : State) : Prop := ∀ w ∈ zNl, va_Nw w U
theorem zNl_ot : zNl.all (fun w => w.onTables) = true := by decide +kernel
theorem zN.same {u U : State} (h : u.vm = U.vm) (hZ : zN u) : zN U := fun w hw => va_Nw.same (List.all_eq_true.mp zNl_ot w hw) h (hZ w hw)
theorem zN.of {args : Array Value} {U : State} (h : ∀ w ∈ lw_tbl, w.before args U = true) : zN U := fun w hw => va_Nw.of (List.all_eq_true.mp zNl_ot w hw) (h w (by
  revert w
  exact List.forall_mem_cons.mpr ⟨q102, List.forall_mem_cons.mpr ⟨q107, List.forall_mem_cons.mpr ⟨q113, List.forall_mem_cons.mpr ⟨q194, List.forall_mem_cons.mpr ⟨q199, List.forall_mem_cons.mpr ⟨q201, List.forall_mem_cons.mpr ⟨q211, List.forall_mem_cons.mpr ⟨q212, List.forall_mem_cons.mpr ⟨q412, List.forall_mem_cons.mpr ⟨q449, List.forall_mem_cons.mpr ⟨q471, List.forall_mem_cons.mpr ⟨q510, List.forall_mem_cons.mpr ⟨q666, List.forall_mem_cons.mpr ⟨q867, List.forall_mem_cons.mpr ⟨q1067, List.forall_mem_cons.mpr ⟨q1096, List.forall_mem_cons.mpr ⟨q1159, fun _ h => absurd h List.not_mem_nil⟩⟩⟩⟩⟩⟩⟩⟩⟩⟩⟩⟩⟩⟩⟩⟩⟩))
theorem zN.warm {s U : State} (hW : s.WarmedH U.vm) (hZ : zN s) : zN U := by
  have k : ∀ w ∈ zNl, va_Nw w s → va_Nw w U := List.forall_mem_cons.mpr ⟨fun h => va_Nw.warmM hW h, List.forall_mem_cons.mpr ⟨fun h => va_Nw.warmF hW h, List.forall_mem_cons.mpr ⟨fun h => va_Nw.warmM hW h, List.forall_mem_cons.mpr ⟨fun h => va_Nw.warmM hW h, List.forall_mem_cons.mpr ⟨fun h => va_Nw.warmF hW h, List.forall_mem_cons.mpr ⟨fun h => va_Nw.warmF hW h, List.forall_mem_cons.mpr ⟨fun h => va_Nw.warmF hW h, List.forall_mem_cons.mpr ⟨fun h => va_Nw.warmF hW h, List.forall_mem_cons.mpr ⟨fun h => va_Nw.warmM hW h, List.forall_mem_cons.mpr ⟨fun h => va_Nw.warmM hW h, List.forall_mem_cons.mpr ⟨fun h => va_Nw.warmM hW h, List.forall_mem_cons.mpr ⟨fun h => va_Nw.warmM hW h, List.forall_mem_cons.mpr ⟨fun h => va_Nw.warmM hW h, List.forall_mem_cons.mpr ⟨fun h => va_Nw.warmM hW h, List.forall_mem_cons.mpr ⟨fun h => va_Nw.warmM hW h, List.forall_mem_cons.mpr ⟨fun h => va_Nw.warmM hW h, List.forall_mem_cons.mpr ⟨fun h => va_Nw.warmM hW h, fun _ h => absurd h List.not_mem_nil⟩⟩⟩⟩⟩⟩⟩⟩⟩⟩⟩⟩⟩⟩⟩⟩⟩
  exact fun w hw => k w hw (hZ w hw)
def zEE (D : va_G) : Nat := D.2 1000 0
def zSK (D : va_G) : Nat := D.2 1001 0
def zSV (D : va_G) : Nat := D.2 1002 0
/-- the start: what the Statement gives of it, and where ArrayList's empty array and the text of the kinds lie -/
def zU0 (B0 : Nat) (D : va_G) (b : Nat) (U0 : State) : Prop := U0.heap.size = B0 ∧ (∀ w ∈ lw_tbl, w.before #[Value.ref b] U0 = true) ∧ (Jvm.Cond.and given_1 narrow_1).before #[Value.ref b] U0 = true ∧ modulesRight_1 U0 = true ∧
  va_Z "java/util/ArrayList" "DEFAULTCAPACITY_EMPTY_ELEMENTDATA" "[Ljava/lang/Object;" (.ref (zEE D)) (fun q => B0 ≤ q) U0 U0.heap ∧ va_T (.object "java/lang/Object") (zEE D) 0 (fun _ => .null) (fun q => B0 ≤ q) U0 U0.heap ∧
  vk_R "StepRiders$Reader" 92 "swrtc" (zSK D) U0 ∧ vk_S 1 [5] [[115, 119, 114, 116, 99]] (fun _ => zSK D) (fun _ => zSV D) (fun q => B0 ≤ q) U0 U0.heap
/-- facts of old cells (below B0), which nobody writes, and of the tables at the start -/
def zH (B0 : Nat) (D : va_G) (U : State) : Prop := ∃ (U0 : State) (b : Nat), zU0 B0 D b U0 ∧ U0.WarmedH U.vm ∧ ∀ q : Nat, q < B0 → U.heap[q]? = U0.heap[q]?
theorem zH.moved {B0 : Nat} {D : va_G} {u U : State} (hW : u.WarmedH U.vm) (hH : ∀ q : Nat, q < B0 → U.heap[q]? = u.heap[q]?) (h : zH B0 D u) : zH B0 D U := by
  obtain ⟨U0, b, h1, h2, h3⟩ := h
  exact ⟨U0, b, h1, State.WarmedH.trans h2 hW, fun q hq => (hH q hq).trans (h3 q hq)⟩
theorem zH.same {B0 : Nat} {D : va_G} {u U : State} (hv : U.vm = u.vm) (hh : U.heap = u.heap) (h : zH B0 D u) : zH B0 D U := by
  obtain ⟨U0, b, h1, h2, h3⟩ := h
  exact ⟨U0, b, h1, by rw [hv]; exact h2, fun q hq => by rw [hh]; exact h3 q hq⟩
def zK (B0 : Nat) (D : va_G) (U : State) : Prop := B0 ≤ U.heap.size ∧ va_K D vwCl (zTy D) U ∧ zN U ∧ zH B0 D U
theorem zK.moved {B0 : Nat} {D : va_G} {s U : State} (h : zK B0 D s) (hW : s.WarmedH U.vm) (hz : B0 ≤ U.heap.size) (hH : ∀ q : Nat, q < B0 → U.heap[q]? = s.heap[q]?) : zK B0 D U := ⟨hz, va_K.moved hW.alike h.2.1, h.2.2.1.warm hW, h.2.2.2.moved hW hH⟩
theorem zK.blind {B0 : Nat} {D : va_G} {U : State} (h : zK B0 D U) (gf : JFrame) (mk : MethodId) (a : Array Value) : zK B0 D (U.calling gf mk a) := ⟨h.1, va_K.moved (u := U) (U := U.calling gf mk a) (Vm.Alike.refl U.vm) h.2.1, zN.same (u := U) rfl h.2.2.1, zH.same (u := U) (U := U.calling gf mk a) rfl rfl h.2.2.2⟩
/-! worlds as lists of segments -/
theorem zm {α : Type} {l : List α} (i : Nat) {x : α} (h : l[i]? = some x) : x ∈ l := List.mem_of_getElem? h
theorem zP_iff {D : va_G} {cl : List vw_C} {w : va_W} {H : Heap} : va_P D cl w H ↔ ∀ q ∈ w, va_at D cl q H := by
  constructor
  · intro h q hq
    obtain ⟨k, hk⟩ := List.getElem?_of_mem hq
    exact h k q hk
  · intro h k q hk
    exact h q (List.mem_of_getElem? hk)
theorem zD_iff {A : Nat → Prop} {w : va_W} : va_D A w ↔ (w.map Prod.fst).Nodup ∧ ∀ q ∈ w, A q.1 := by
  constructor
  · intro h
    refine ⟨?_, fun q hq => ?_⟩
    · rw [List.nodup_iff_pairwise_ne, List.pairwise_iff_getElem]
      intro i j hi hj hij e
      rw [List.length_map] at hi hj
      simp only [List.getElem_map] at e
      have := h.1 i j _ _ (List.getElem?_eq_getElem hi) (List.getElem?_eq_getElem hj) e
      omega
    · obtain ⟨k, hk⟩ := List.getElem?_of_mem hq
      exact h.2 k q hk
  · intro h
    refine ⟨fun i j x y hi hj e => ?_, fun k q hk => h.2 q (List.mem_of_getElem? hk)⟩
    obtain ⟨h1, h2⟩ := List.getElem?_eq_some_iff.mp hi
    obtain ⟨h3, h4⟩ := List.getElem?_eq_some_iff.mp hj
    have hn := h.1
    rw [List.nodup_iff_pairwise_ne, List.pairwise_iff_getElem] at hn
    rcases Nat.lt_trichotomy i j with z | z | z
    · have hne := hn i j (by simpa using h1) (by simpa using h3) z
      simp only [List.getElem_map, h2, h4] at hne
      exact absurd e hne
    · exact z
    · have hne := hn j i (by simpa using h3) (by simpa using h1) z
      simp only [List.getElem_map, h2, h4] at hne
      exact absurd e.symm hne
theorem zP_mem {D : va_G} {cl : List vw_C} {w w' : va_W} {H : Heap} (h : va_P D cl w H) (hs : ∀ q ∈ w', q ∈ w) : va_P D cl w' H := zP_iff.mpr fun q hq => zP_iff.mp h q (hs q hq)
theorem zD_perm {A : Nat → Prop} {w w' : va_W} (h : va_D A w) (hp : w.Perm w') : va_D A w' := by
  rw [zD_iff] at h ⊢
  exact ⟨(hp.map Prod.fst).nodup_iff.mp h.1, fun q hq => h.2 q (hp.mem_iff.mpr hq)⟩
def zPick (ws : List va_W) (is : List Nat) : List va_W := is.map (fun i => ws.getD i [])
theorem zPick_sub (ws : List va_W) (is : List Nat) : ∀ q ∈ (zPick ws is).flatten, q ∈ ws.flatten := by
  intro q hq
  obtain ⟨l, hl, hql⟩ := List.mem_flatten.mp hq
  obtain ⟨i, hi, rfl⟩ := List.mem_map.mp hl
  rw [List.getD_eq_getElem?_getD] at hql
  cases h : ws[i]? with
  | none => rw [h] at hql; simp at hql
  | some x => rw [h] at hql; exact List.mem_flatten.mpr ⟨x, List.mem_of_getElem? h, hql⟩
theorem zPick_all (ws : List va_W) : zPick ws (List.range ws.length) = ws := by
  apply List.ext_getElem?
  intro i
  simp only [zPick, List.getElem?_map]
  by_cases h : i < ws.length
  · rw [List.getElem?_range h]
    simp [h]
  · rw [List.getElem?_eq_none (by simpa using h), List.getElem?_eq_none (by omega)]
    rfl
theorem zPick_perm (ws : List va_W) (is : List Nat) (h : is.isPerm (List.range ws.length) = true) : (zPick ws is).flatten.Perm ws.flatten := by
  have h1 : is.Perm (List.range ws.length) := List.isPerm_iff.mp h
  have h2 : (zPick ws is).Perm (zPick ws (List.range ws.length)) := h1.map _
  rw [zPick_all] at h2
  exact h2.flatten
theorem zPick_app (ws : List va_W) (is js : List Nat) : zPick ws (is ++ js) = zPick ws is ++ zPick ws js := List.map_append
theorem zPick_perm2 {ws wc wr : List va_W} (is js : List Nat) (hc : zPick ws is = wc) (hr : zPick ws js = wr) (h : (is ++ js).isPerm (List.range ws.length) = true) : (wc.flatten ++ wr.flatten).Perm ws.flatten := by
  have h1 := zPick_perm ws (is ++ js) h
  rw [zPick_app, hc, hr, List.flatten_append] at h1
  exact h1
/-- behind a call: the callee's world, and the caller's rest -/
theorem zJoin {A : Nat → Prop} {D : va_G} {cl : List vw_C} {ws wc wr w1 : va_W} {H H1 : Heap} (hP : va_P D cl ws H) (hD : va_D A ws) (hp : (wc ++ wr).Perm ws)
    (hk : ∀ q : Nat, q < H.size → ¬ va_A wc H.size q → H1[q]? = H[q]?) (hF : ∀ q, va_A wc H.size q → A q) (hP1 : va_P D cl w1 H1) (hD1 : va_D (va_A wc H.size) w1) : va_P D cl (w1 ++ wr) H1 ∧ va_D A (w1 ++ wr) := by
  have hDp := zD_iff.mp (zD_perm hD hp.symm)
  have hnd := hDp.1
  rw [List.map_append, List.nodup_append] at hnd
  have apart : ∀ q ∈ wr, q.1 < H.size ∧ ¬ va_A wc H.size q.1 := by
    intro q hq
    have hl := (zP_iff.mp hP q (hp.mem_iff.mp (List.mem_append_right _ hq))).lt
    refine ⟨hl, fun h => ?_⟩
    rcases h with ⟨k2, e, h⟩ | h
    · exact hnd.2.2 q.1 (List.mem_map.mpr ⟨(q.1, e), List.mem_of_getElem? h, rfl⟩) q.1 (List.mem_map.mpr ⟨q, hq, rfl⟩) rfl
    · omega
  refine ⟨va_P.app hP1 (zP_iff.mpr fun q hq => ?_), ?_⟩
  · exact (zP_iff.mp hP q (hp.mem_iff.mp (List.mem_append_right _ hq))).kept (hk q.1 (apart q hq).1 (apart q hq).2)
  · have h1 := zD_iff.mp hD1
    refine zD_iff.mpr ⟨?_, fun q hq => ?_⟩
    · rw [List.map_append, List.nodup_append]
      refine ⟨h1.1, hnd.2.1, fun a ha b hb e => ?_⟩
      obtain ⟨x, hx, rfl⟩ := List.mem_map.mp ha
      obtain ⟨y, hy, rfl⟩ := List.mem_map.mp hb
      exact (apart y hy).2 (by rw [← e]; exact h1.2 x hx)
    · rcases List.mem_append.mp hq with h | h
      · exact hF _ (h1.2 q h)
      · exact hDp.2 q (List.mem_append_right _ h)
/-! the judgement -/
def zJ (p : Program) (l : Launch) (e : Env) (R : Room) (s : State) (m : MethodId) (args : Array Value) (below : List Frame) (meth : Method) (c : Code) (Q : State → Prop) (nL : Nat) (I : Heap → List Loc → Prop) (cells slots pc : Nat) (lv : List (Nat × Value)) (st : List Value) : Prop :=
  ∀ (H : Heap) (locs : List Loc) (ls : Array Slot), I H locs → lv_has ls nL lv → W p l e R s m args below meth c H locs cells slots Q (F0 m pc ls st)
def zI (D : va_G) (A : Nat → Prop) (s : State) (ws : List va_W) : Heap → List Loc → Prop := fun H locs => va_P D vwCl ws.flatten H ∧ va_D A ws.flatten ∧ va_S A s.heap H locs
def zIo (D : va_G) (s : State) (ws : List va_W) : Heap → List Loc → Prop := fun H locs => va_P D vwCl ws.flatten H ∧ H = s.heap ∧ locs = []
def zOK (B0 : Nat) (D : va_G) (s : State) (ws : List va_W) (I : Heap → List Loc → Prop) : Prop := ∀ H locs, I H locs → va_P D vwCl ws.flatten H ∧ s.heap.size ≤ H.size ∧ (∀ q : Nat, q < B0 → H[q]? = s.heap[q]?) ∧ ∀ z ∈ locs, B0 ≤ z.base
def zG (p : Program) (s : State) (m : MethodId) (args : Array Value) (meth : Method) (c : Code) (cc : ByteArray) (nL : Nat) (own : String) (ret : Option FieldType) (D : va_G) (B0 : Nat) : Prop :=
  p.tables.exec = Jvm.exec ∧ c.code = cc ∧ c.maxLocals = nL ∧ s.vm.findClass own = some m.cls ∧ (∀ w ∈ lw_all, w.before args s = true) ∧ meth.sig.returnType = ret ∧ meth.locks = false ∧ zK B0 D s
def zA (s : State) (A : Nat → Prop) (B0 : Nat) : Prop := (∀ q : Nat, s.heap.size ≤ q → A q) ∧ ∀ q : Nat, A q → B0 ≤ q
def zPre (B0 : Nat) (D : va_G) (A : Nat → Prop) (w0 : List va_W) (U : State) : Prop := zK B0 D U ∧ va_P D vwCl w0.flatten U.heap ∧ va_D A w0.flatten ∧ (∀ q : Nat, U.heap.size ≤ q → A q) ∧ ∀ q : Nat, A q → B0 ≤ q
def zPreO (B0 : Nat) (D : va_G) (w0 : List va_W) (U : State) : Prop := zK B0 D U ∧ va_P D vwCl w0.flatten U.heap
def zQ {S : Type} (post : S → Prop) (val : S → Option Value) (w1 : S → List va_W) (D : va_G) (A : Nat → Prop) : Array Value → State → Outcome → State → Prop := fun _ st oc t => (∃ u : S, oc = .returned (val u) ∧ post u ∧ va_P D vwCl (w1 u).flatten t.heap ∧ va_D A (w1 u).flatten) ∧ va_F A st t
def zQo {S : Type} (post : S → Prop) (val : S → Option Value) : Array Value → State → Outcome → State → Prop := fun _ st oc t => ∃ u : S, oc = .returned (val u) ∧ post u ∧ t.heap = st.heap
theorem zPre.blind {B0 : Nat} {D : va_G} {A : Nat → Prop} {w0 : List va_W} {av : List Value} : FrameBlind (va_Pc av (zPre B0 D A w0)) := fun a U gf mk q => ⟨q.1, q.2.1.blind gf mk a, q.2.2⟩
theorem zPreO.blind {B0 : Nat} {D : va_G} {w0 : List va_W} {av : List Value} : FrameBlind (va_Pc av (zPreO B0 D w0)) := fun a U gf mk q => ⟨q.1, q.2.1.blind gf mk a, q.2.2⟩
section ZL
variable {p : Program} {l : Launch} {e : Env} {R : Room} {s : State} {m : MethodId} {args : Array Value} {below : List Frame} {meth : Method} {c : Code} {Q : State → Prop} {nL : Nat} {D : va_G} {A : Nat → Prop} {cells slots : Nat} {cc : ByteArray} {own : String} {ret : Option FieldType} {B0 : Nat} {pc : Nat} {lv lv' : List (Nat × Value)} {st : List Value} {ws ws' wc wr : List va_W} {I : Heap → List Loc → Prop}
theorem zG.fix (g : zG p s m args meth c cc nL own ret D B0) : CallFix p m c cc nL s args lw_all own := ⟨g.1, g.2.1, g.2.2.1, g.2.2.2.1, g.2.2.2.2.1⟩
theorem zG.ow (g : zG p s m args meth c cc nL own ret D B0) : s.vm.findClass own = some m.cls := g.2.2.2.1
theorem zG.ts (g : zG p s m args meth c cc nL own ret D B0) : ∀ w ∈ lw_all, w.before args s = true := g.2.2.2.2.1
theorem zG.K (g : zG p s m args meth c cc nL own ret D B0) : va_K D vwCl (zTy D) s := g.2.2.2.2.2.2.2.2.1
theorem zG.zk (g : zG p s m args meth c cc nL own ret D B0) : zK B0 D s := g.2.2.2.2.2.2.2
theorem zI_ok (g : zG p s m args meth c cc nL own ret D B0) (hA : zA s A B0) : zOK B0 D s ws (zI D A s ws) := fun H locs h => ⟨h.1, h.2.2.1, fun q hq => h.2.2.2.1 q (Nat.lt_of_lt_of_le hq g.zk.1) (fun z => absurd (hA.2 q z) (by omega)), fun z hz => hA.2 _ (h.2.2.2.2 z hz)⟩
theorem zIo_ok (g : zG p s m args meth c cc nL own ret D B0) : zOK B0 D s ws (zIo D s ws) := fun H locs h => ⟨h.1, by rw [h.2.1]; exact Nat.le_refl _, fun q hq => by rw [h.2.1], fun z hz => by rw [h.2.2] at hz; exact absurd hz List.not_mem_nil⟩
theorem z_eq {lv₂ : List (Nat × Value)} {st₂ : List Value} (k : (zJ p l e R s m args below meth c Q nL (I) (cells) (slots) (pc) (lv₂) (st₂))) (h1 : lv = lv₂) (h2 : st = st₂) : (zJ p l e R s m args below meth c Q nL (I) (cells) (slots) (pc) (lv) (st)) := by subst h1; subst h2; exact k
theorem z_lv (ks : List Nat) (lv' : List (Nat × Value)) (h : lv_pick lv ks = lv') (k : (zJ p l e R s m args below meth c Q nL (I) (cells) (slots) (pc) (lv') (st))) : (zJ p l e R s m args below meth c Q nL (I) (cells) (slots) (pc) (lv) (st)) := fun H locs ls hI hl => k H locs ls hI (lv_sub hl ks h)
theorem z_re (is : List Nat) (ws' : List va_W) (h : zPick ws is = ws') (hp : is.isPerm (List.range ws.length) = true) (k : (zJ p l e R s m args below meth c Q nL (zI D A s ws') (cells) (slots) (pc) (lv) (st))) : (zJ p l e R s m args below meth c Q nL (zI D A s ws) (cells) (slots) (pc) (lv) (st)) := by
  subst h
  intro H locs ls hI hl
  exact k H locs ls ⟨zP_mem hI.1 (zPick_sub ws is), zD_perm hI.2.1 (zPick_perm ws is hp).symm, hI.2.2⟩ hl
theorem z_ws (ws' : List va_W) (h : ws.flatten.Perm ws'.flatten) (k : (zJ p l e R s m args below meth c Q nL (zI D A s ws') (cells) (slots) (pc) (lv) (st))) : (zJ p l e R s m args below meth c Q nL (zI D A s ws) (cells) (slots) (pc) (lv) (st)) := fun H locs ls hI hl => k H locs ls ⟨zP_mem hI.1 (fun q hq => h.mem_iff.mpr hq), zD_perm hI.2.1 h, hI.2.2⟩ hl
theorem z_weq (ws' : List va_W) (h : ws = ws') (k : (zJ p l e R s m args below meth c Q nL (zI D A s ws') (cells) (slots) (pc) (lv) (st))) : (zJ p l e R s m args below meth c Q nL (zI D A s ws) (cells) (slots) (pc) (lv) (st)) := by subst h; exact k
theorem z_widen {k n : Nat} (h1 : cells ≤ k) (h2 : slots ≤ n) (kk : (zJ p l e R s m args below meth c Q nL (I) (k) (n) (pc) (lv) (st))) : (zJ p l e R s m args below meth c Q nL (I) (cells) (slots) (pc) (lv) (st)) := fun H locs ls hI hl => W.widen h1 h2 (kk H locs ls hI hl)
theorem z_top {x : Int32} (y : Int32) (h : x = y) (k : (zJ p l e R s m args below meth c Q nL (I) (cells) (slots) (pc) (lv) (.int y :: st))) : (zJ p l e R s m args below meth c Q nL (I) (cells) (slots) (pc) (lv) (.int x :: st)) := by subst h; exact k
theorem z_topl {x : Int64} (y : Int64) (h : x = y) (k : (zJ p l e R s m args below meth c Q nL (I) (cells) (slots) (pc) (lv) (.long y :: st))) : (zJ p l e R s m args below meth c Q nL (I) (cells) (slots) (pc) (lv) (.long x :: st)) := by subst h; exact k
theorem z_topv {x : Value} (y : Value) (h : x = y) (k : (zJ p l e R s m args below meth c Q nL (I) (cells) (slots) (pc) (lv) (y :: st))) : (zJ p l e R s m args below meth c Q nL (I) (cells) (slots) (pc) (lv) (x :: st)) := by subst h; exact k
theorem z_name {x : Int32} (k : ∀ y : Int32, y = x → (zJ p l e R s m args below meth c Q nL (I) (cells) (slots) (pc) (lv) (.int y :: st))) : (zJ p l e R s m args below meth c Q nL (I) (cells) (slots) (pc) (lv) (.int x :: st)) := k x rfl
theorem z_namel {x : Int64} (k : ∀ y : Int64, y = x → (zJ p l e R s m args below meth c Q nL (I) (cells) (slots) (pc) (lv) (.long y :: st))) : (zJ p l e R s m args below meth c Q nL (I) (cells) (slots) (pc) (lv) (.long x :: st)) := k x rfl

theorem z_iconst (g : zG p s m args meth c cc nL own ret D B0) {n : Int} (v : Int32) (d : decode cc pc = .ok (.iconst n, 1)) (hv : Int32.ofInt n = v) (k : (zJ p l e R s m args below meth c Q nL (I) (cells) (slots) (pc + 1) (lv) (.int v :: st))) : (zJ p l e R s m args below meth c Q nL (I) (cells) (slots) (pc) (lv) (st)) := fun H locs ls hI hl => lv_iconst g.1 g.2.1 d hv (k H locs ls hI hl)
theorem z_bipush (g : zG p s m args meth c cc nL own ret D B0) {n : Int} (v : Int32) (d : decode cc pc = .ok (.bipush n, 2)) (hv : (Int8.ofInt n).toInt32 = v) (k : (zJ p l e R s m args below meth c Q nL (I) (cells) (slots) (pc + 2) (lv) (.int v :: st))) : (zJ p l e R s m args below meth c Q nL (I) (cells) (slots) (pc) (lv) (st)) := fun H locs ls hI hl => lv_bipush g.1 g.2.1 d hv (k H locs ls hI hl)
theorem z_sipush (g : zG p s m args meth c cc nL own ret D B0) {n : Int} (v : Int32) (d : decode cc pc = .ok (.sipush n, 3)) (hv : (Int16.ofInt n).toInt32 = v) (k : (zJ p l e R s m args below meth c Q nL (I) (cells) (slots) (pc + 3) (lv) (.int v :: st))) : (zJ p l e R s m args below meth c Q nL (I) (cells) (slots) (pc) (lv) (st)) := fun H locs ls hI hl => lv_sipush g.1 g.2.1 d hv (k H locs ls hI hl)
theorem z_lconst (g : zG p s m args meth c cc nL own ret D B0) {n : Fin 2} (v : Int64) (d : decode cc pc = .ok (.lconst n, 1)) (hv : Int64.ofNat (n : Nat) = v) (k : (zJ p l e R s m args below meth c Q nL (I) (cells) (slots) (pc + 1) (lv) (.long v :: st))) : (zJ p l e R s m args below meth c Q nL (I) (cells) (slots) (pc) (lv) (st)) := fun H locs ls hI hl => lv_lconst g.1 g.2.1 d hv (k H locs ls hI hl)
theorem z_ldc (g : zG p s m args meth c cc nL own ret D B0) {index : Nat} {v : Int32} (q : Cond.constant own index v ∈ lw_all) (d : decode cc pc = .ok (.ldc index, 2)) (k : (zJ p l e R s m args below meth c Q nL (I) (cells) (slots) (pc + 2) (lv) (.int v :: st))) : (zJ p l e R s m args below meth c Q nL (I) (cells) (slots) (pc) (lv) (st)) := fun H locs ls hI hl => lv_ldc g.1 g.2.1 g.ow (g.ts _ q) d (k H locs ls hI hl)
theorem z_ldc2_w (g : zG p s m args meth c cc nL own ret D B0) {index : Nat} {v : Int64} (q : Cond.constantLong own index v ∈ lw_all) (d : decode cc pc = .ok (.ldc2_w index, 3)) (k : (zJ p l e R s m args below meth c Q nL (I) (cells) (slots) (pc + 3) (lv) (.long v :: st))) : (zJ p l e R s m args below meth c Q nL (I) (cells) (slots) (pc) (lv) (st)) := fun H locs ls hI hl => lv_ldc2 g.1 g.2.1 g.ow (g.ts _ q) d (k H locs ls hI hl)
theorem z_aconst_null (g : zG p s m args meth c cc nL own ret D B0) (d : decode cc pc = .ok (.aconst_null, 1)) (k : (zJ p l e R s m args below meth c Q nL (I) (cells) (slots) (pc + 1) (lv) (.null :: st))) : (zJ p l e R s m args below meth c Q nL (I) (cells) (slots) (pc) (lv) (st)) := fun H locs ls hI hl => lv_null g.1 g.2.1 d (k H locs ls hI hl)
theorem z_iload_n (g : zG p s m args meth c cc nL own ret D B0) {k : Fin 4} {i : Nat} (j : Nat) {x : Int32} (d : decode cc pc = .ok (.iload_n k, 1)) (hi : (k : Nat) = i) (hx : lv[j]? = some (i, .int x)) (kk : (zJ p l e R s m args below meth c Q nL (I) (cells) (slots) (pc + 1) (lv) (.int x :: st))) : (zJ p l e R s m args below meth c Q nL (I) (cells) (slots) (pc) (lv) (st)) := fun H locs ls hI hl => lv_iload_n g.1 g.2.1 d hi (lv_at hl j hx) (kk H locs ls hI hl)
theorem z_iload (g : zG p s m args meth c cc nL own ret D B0) {i : Nat} (j : Nat) {x : Int32} (d : decode cc pc = .ok (.iload i, 2)) (hx : lv[j]? = some (i, .int x)) (kk : (zJ p l e R s m args below meth c Q nL (I) (cells) (slots) (pc + 2) (lv) (.int x :: st))) : (zJ p l e R s m args below meth c Q nL (I) (cells) (slots) (pc) (lv) (st)) := fun H locs ls hI hl => lv_iload g.1 g.2.1 d (lv_at hl j hx) (kk H locs ls hI hl)
theorem z_lload_n (g : zG p s m args meth c cc nL own ret D B0) {k : Fin 4} {i : Nat} (j : Nat) {x : Int64} (d : decode cc pc = .ok (.lload_n k, 1)) (hi : (k : Nat) = i) (hx : lv[j]? = some (i, .long x)) (kk : (zJ p l e R s m args below meth c Q nL (I) (cells) (slots) (pc + 1) (lv) (.long x :: st))) : (zJ p l e R s m args below meth c Q nL (I) (cells) (slots) (pc) (lv) (st)) := fun H locs ls hI hl => lv_lload_n g.1 g.2.1 d hi (lv_at hl j hx) (kk H locs ls hI hl)
theorem z_lload (g : zG p s m args meth c cc nL own ret D B0) {i : Nat} (j : Nat) {x : Int64} (d : decode cc pc = .ok (.lload i, 2)) (hx : lv[j]? = some (i, .long x)) (kk : (zJ p l e R s m args below meth c Q nL (I) (cells) (slots) (pc + 2) (lv) (.long x :: st))) : (zJ p l e R s m args below meth c Q nL (I) (cells) (slots) (pc) (lv) (st)) := fun H locs ls hI hl => lv_lload g.1 g.2.1 d (lv_at hl j hx) (kk H locs ls hI hl)
theorem z_aload_n (g : zG p s m args meth c cc nL own ret D B0) {k : Fin 4} {i : Nat} (j : Nat) {x : Nat} (d : decode cc pc = .ok (.aload_n k, 1)) (hi : (k : Nat) = i) (hx : lv[j]? = some (i, .ref x)) (kk : (zJ p l e R s m args below meth c Q nL (I) (cells) (slots) (pc + 1) (lv) (.ref x :: st))) : (zJ p l e R s m args below meth c Q nL (I) (cells) (slots) (pc) (lv) (st)) := fun H locs ls hI hl => lv_aload_n g.1 g.2.1 d hi (lv_at hl j hx) (kk H locs ls hI hl)
theorem z_aload (g : zG p s m args meth c cc nL own ret D B0) {i : Nat} (j : Nat) {x : Nat} (d : decode cc pc = .ok (.aload i, 2)) (hx : lv[j]? = some (i, .ref x)) (kk : (zJ p l e R s m args below meth c Q nL (I) (cells) (slots) (pc + 2) (lv) (.ref x :: st))) : (zJ p l e R s m args below meth c Q nL (I) (cells) (slots) (pc) (lv) (st)) := fun H locs ls hI hl => lv_aload g.1 g.2.1 d (lv_at hl j hx) (kk H locs ls hI hl)
theorem z_aloadN_n (g : zG p s m args meth c cc nL own ret D B0) {k : Fin 4} {i : Nat} (j : Nat) (d : decode cc pc = .ok (.aload_n k, 1)) (hi : (k : Nat) = i) (hx : lv[j]? = some (i, .null)) (kk : (zJ p l e R s m args below meth c Q nL (I) (cells) (slots) (pc + 1) (lv) (.null :: st))) : (zJ p l e R s m args below meth c Q nL (I) (cells) (slots) (pc) (lv) (st)) := fun H locs ls hI hl => lv_aload_nN g.1 g.2.1 d hi (lv_at hl j hx) (kk H locs ls hI hl)
theorem z_aloadN (g : zG p s m args meth c cc nL own ret D B0) {i : Nat} (j : Nat) (d : decode cc pc = .ok (.aload i, 2)) (hx : lv[j]? = some (i, .null)) (kk : (zJ p l e R s m args below meth c Q nL (I) (cells) (slots) (pc + 2) (lv) (.null :: st))) : (zJ p l e R s m args below meth c Q nL (I) (cells) (slots) (pc) (lv) (st)) := fun H locs ls hI hl => lv_aloadN g.1 g.2.1 d (lv_at hl j hx) (kk H locs ls hI hl)
theorem z_istore_n (g : zG p s m args meth c cc nL own ret D B0) {k : Fin 4} {i : Nat} {x : Int32} (ks : List Nat) (lv' : List (Nat × Value)) (d : decode cc pc = .ok (.istore_n k, 1)) (hi : (k : Nat) = i) (hn : i < nL) (h : lv_pick ((i, Value.int x) :: lv.filter (fun q => !(q.1 == i) && !(q.1 + 1 == i && q.2.category == 2))) ks = lv') (kk : (zJ p l e R s m args below meth c Q nL (I) (cells) (slots) (pc + 1) (lv') (st))) : (zJ p l e R s m args below meth c Q nL (I) (cells) (slots) (pc) (lv) (.int x :: st)) := fun H locs ls hI hl => lv_istore_n g.1 g.2.1 d hi hl hn rfl (fun ls' h' => kk H locs ls' hI (lv_sub h' ks h))
theorem z_istore (g : zG p s m args meth c cc nL own ret D B0) {i : Nat} {x : Int32} (ks : List Nat) (lv' : List (Nat × Value)) (d : decode cc pc = .ok (.istore i, 2)) (hn : i < nL) (h : lv_pick ((i, Value.int x) :: lv.filter (fun q => !(q.1 == i) && !(q.1 + 1 == i && q.2.category == 2))) ks = lv') (kk : (zJ p l e R s m args below meth c Q nL (I) (cells) (slots) (pc + 2) (lv') (st))) : (zJ p l e R s m args below meth c Q nL (I) (cells) (slots) (pc) (lv) (.int x :: st)) := fun H locs ls hI hl => lv_istore g.1 g.2.1 d hl hn rfl (fun ls' h' => kk H locs ls' hI (lv_sub h' ks h))
theorem z_astore_n (g : zG p s m args meth c cc nL own ret D B0) {k : Fin 4} {i : Nat} {x : Nat} (ks : List Nat) (lv' : List (Nat × Value)) (d : decode cc pc = .ok (.astore_n k, 1)) (hi : (k : Nat) = i) (hn : i < nL) (h : lv_pick ((i, Value.ref x) :: lv.filter (fun q => !(q.1 == i) && !(q.1 + 1 == i && q.2.category == 2))) ks = lv') (kk : (zJ p l e R s m args below meth c Q nL (I) (cells) (slots) (pc + 1) (lv') (st))) : (zJ p l e R s m args below meth c Q nL (I) (cells) (slots) (pc) (lv) (.ref x :: st)) := fun H locs ls hI hl => lv_astore_n g.1 g.2.1 d hi hl hn rfl (fun ls' h' => kk H locs ls' hI (lv_sub h' ks h))
theorem z_astore (g : zG p s m args meth c cc nL own ret D B0) {i : Nat} {x : Nat} (ks : List Nat) (lv' : List (Nat × Value)) (d : decode cc pc = .ok (.astore i, 2)) (hn : i < nL) (h : lv_pick ((i, Value.ref x) :: lv.filter (fun q => !(q.1 == i) && !(q.1 + 1 == i && q.2.category == 2))) ks = lv') (kk : (zJ p l e R s m args below meth c Q nL (I) (cells) (slots) (pc + 2) (lv') (st))) : (zJ p l e R s m args below meth c Q nL (I) (cells) (slots) (pc) (lv) (.ref x :: st)) := fun H locs ls hI hl => lv_astore g.1 g.2.1 d hl hn rfl (fun ls' h' => kk H locs ls' hI (lv_sub h' ks h))
theorem z_lstore_n (g : zG p s m args meth c cc nL own ret D B0) {k : Fin 4} {i : Nat} {x : Int64} (ks : List Nat) (lv' : List (Nat × Value)) (d : decode cc pc = .ok (.lstore_n k, 1)) (hi : (k : Nat) = i) (hn : i + 1 < nL) (h : lv_pick ((i, Value.long x) :: lv.filter (fun q => !(q.1 == i) && (!(q.1 == i + 1) && !(q.1 + 1 == i && q.2.category == 2)))) ks = lv') (kk : (zJ p l e R s m args below meth c Q nL (I) (cells) (slots) (pc + 1) (lv') (st))) : (zJ p l e R s m args below meth c Q nL (I) (cells) (slots) (pc) (lv) (.long x :: st)) := fun H locs ls hI hl => lv_lstore_n g.1 g.2.1 d hi hl hn rfl (fun ls' h' => kk H locs ls' hI (lv_sub h' ks h))
theorem z_lstore (g : zG p s m args meth c cc nL own ret D B0) {i : Nat} {x : Int64} (ks : List Nat) (lv' : List (Nat × Value)) (d : decode cc pc = .ok (.lstore i, 2)) (hn : i + 1 < nL) (h : lv_pick ((i, Value.long x) :: lv.filter (fun q => !(q.1 == i) && (!(q.1 == i + 1) && !(q.1 + 1 == i && q.2.category == 2)))) ks = lv') (kk : (zJ p l e R s m args below meth c Q nL (I) (cells) (slots) (pc + 2) (lv') (st))) : (zJ p l e R s m args below meth c Q nL (I) (cells) (slots) (pc) (lv) (.long x :: st)) := fun H locs ls hI hl => lv_lstore g.1 g.2.1 d hl hn rfl (fun ls' h' => kk H locs ls' hI (lv_sub h' ks h))
theorem z_iinc (g : zG p s m args meth c cc nL own ret D B0) {i : Nat} (j : Nat) {n : Int} {x : Int32} (v : Int32) (ks : List Nat) (lv' : List (Nat × Value)) (d : decode cc pc = .ok (.iinc i n, 3)) (hx : lv[j]? = some (i, .int x)) (hv : x + Int32.ofInt n = v) (hn : i < nL) (h : lv_pick ((i, Value.int v) :: lv.filter (fun q => !(q.1 == i) && !(q.1 + 1 == i && q.2.category == 2))) ks = lv') (kk : (zJ p l e R s m args below meth c Q nL (I) (cells) (slots) (pc + 3) (lv') (st))) : (zJ p l e R s m args below meth c Q nL (I) (cells) (slots) (pc) (lv) (st)) := fun H locs ls hI hl => lv_iinc g.1 g.2.1 d hl hx hv hn rfl (fun ls' h' => kk H locs ls' hI (lv_sub h' ks h))
theorem z_iadd (g : zG p s m args meth c cc nL own ret D B0) {x y : Int32} (d : decode cc pc = .ok (.iadd, 1)) (k : (zJ p l e R s m args below meth c Q nL (I) (cells) (slots) (pc + 1) (lv) (.int (x + y) :: st))) : (zJ p l e R s m args below meth c Q nL (I) (cells) (slots) (pc) (lv) (.int y :: .int x :: st)) := fun H locs ls hI hl => lv_iadd g.1 g.2.1 d (k H locs ls hI hl)
theorem z_isub (g : zG p s m args meth c cc nL own ret D B0) {x y : Int32} (d : decode cc pc = .ok (.isub, 1)) (k : (zJ p l e R s m args below meth c Q nL (I) (cells) (slots) (pc + 1) (lv) (.int (x - y) :: st))) : (zJ p l e R s m args below meth c Q nL (I) (cells) (slots) (pc) (lv) (.int y :: .int x :: st)) := fun H locs ls hI hl => lv_isub g.1 g.2.1 d (k H locs ls hI hl)
theorem z_imul (g : zG p s m args meth c cc nL own ret D B0) {x y : Int32} (d : decode cc pc = .ok (.imul, 1)) (k : (zJ p l e R s m args below meth c Q nL (I) (cells) (slots) (pc + 1) (lv) (.int (x * y) :: st))) : (zJ p l e R s m args below meth c Q nL (I) (cells) (slots) (pc) (lv) (.int y :: .int x :: st)) := fun H locs ls hI hl => lv_imul g.1 g.2.1 d (k H locs ls hI hl)
theorem z_iand (g : zG p s m args meth c cc nL own ret D B0) {x y : Int32} (d : decode cc pc = .ok (.iand, 1)) (k : (zJ p l e R s m args below meth c Q nL (I) (cells) (slots) (pc + 1) (lv) (.int (x &&& y) :: st))) : (zJ p l e R s m args below meth c Q nL (I) (cells) (slots) (pc) (lv) (.int y :: .int x :: st)) := fun H locs ls hI hl => lv_iand g.1 g.2.1 d (k H locs ls hI hl)
theorem z_ior (g : zG p s m args meth c cc nL own ret D B0) {x y : Int32} (d : decode cc pc = .ok (.ior, 1)) (k : (zJ p l e R s m args below meth c Q nL (I) (cells) (slots) (pc + 1) (lv) (.int (HOr.hOr x y) :: st))) : (zJ p l e R s m args below meth c Q nL (I) (cells) (slots) (pc) (lv) (.int y :: .int x :: st)) := fun H locs ls hI hl => lv_ior g.1 g.2.1 d (k H locs ls hI hl)
theorem z_ixor (g : zG p s m args meth c cc nL own ret D B0) {x y : Int32} (d : decode cc pc = .ok (.ixor, 1)) (k : (zJ p l e R s m args below meth c Q nL (I) (cells) (slots) (pc + 1) (lv) (.int (x ^^^ y) :: st))) : (zJ p l e R s m args below meth c Q nL (I) (cells) (slots) (pc) (lv) (.int y :: .int x :: st)) := fun H locs ls hI hl => lv_ixor g.1 g.2.1 d (k H locs ls hI hl)
theorem z_idiv (g : zG p s m args meth c cc nL own ret D B0) {x y : Int32} (d : decode cc pc = .ok (.idiv, 1)) (hne : ¬ y = 0) (k : (zJ p l e R s m args below meth c Q nL (I) (cells) (slots) (pc + 1) (lv) (.int (x / y) :: st))) : (zJ p l e R s m args below meth c Q nL (I) (cells) (slots) (pc) (lv) (.int y :: .int x :: st)) := fun H locs ls hI hl => lv_idiv g.1 g.2.1 d hne (k H locs ls hI hl)
theorem z_irem (g : zG p s m args meth c cc nL own ret D B0) {x y : Int32} (d : decode cc pc = .ok (.irem, 1)) (hne : ¬ y = 0) (k : (zJ p l e R s m args below meth c Q nL (I) (cells) (slots) (pc + 1) (lv) (.int (x - x / y * y) :: st))) : (zJ p l e R s m args below meth c Q nL (I) (cells) (slots) (pc) (lv) (.int y :: .int x :: st)) := fun H locs ls hI hl => lv_irem g.1 g.2.1 d hne (k H locs ls hI hl)
theorem z_lrem (g : zG p s m args meth c cc nL own ret D B0) {x y : Int64} (d : decode cc pc = .ok (.lrem, 1)) (hne : ¬ y = 0) (k : (zJ p l e R s m args below meth c Q nL (I) (cells) (slots) (pc + 1) (lv) (.long (x - x / y * y) :: st))) : (zJ p l e R s m args below meth c Q nL (I) (cells) (slots) (pc) (lv) (.long y :: .long x :: st)) := fun H locs ls hI hl => lv_lrem g.1 g.2.1 d hne (k H locs ls hI hl)
theorem z_ladd (g : zG p s m args meth c cc nL own ret D B0) {x y : Int64} (d : decode cc pc = .ok (.ladd, 1)) (k : (zJ p l e R s m args below meth c Q nL (I) (cells) (slots) (pc + 1) (lv) (.long (x + y) :: st))) : (zJ p l e R s m args below meth c Q nL (I) (cells) (slots) (pc) (lv) (.long y :: .long x :: st)) := fun H locs ls hI hl => lv_ladd g.1 g.2.1 d (k H locs ls hI hl)
theorem z_lmul (g : zG p s m args meth c cc nL own ret D B0) {x y : Int64} (d : decode cc pc = .ok (.lmul, 1)) (k : (zJ p l e R s m args below meth c Q nL (I) (cells) (slots) (pc + 1) (lv) (.long (x * y) :: st))) : (zJ p l e R s m args below meth c Q nL (I) (cells) (slots) (pc) (lv) (.long y :: .long x :: st)) := fun H locs ls hI hl => lv_lmul g.1 g.2.1 d (k H locs ls hI hl)
theorem z_lcmp (g : zG p s m args meth c cc nL own ret D B0) {x y : Int64} (d : decode cc pc = .ok (.lcmp, 1)) (k : (zJ p l e R s m args below meth c Q nL (I) (cells) (slots) (pc + 1) (lv) (.int (lg_cmp x y) :: st))) : (zJ p l e R s m args below meth c Q nL (I) (cells) (slots) (pc) (lv) (.long y :: .long x :: st)) := fun H locs ls hI hl => W.lcmp g.1 g.2.1 d (k H locs ls hI hl)
theorem z_ineg (g : zG p s m args meth c cc nL own ret D B0) {x : Int32} (d : decode cc pc = .ok (.ineg, 1)) (k : (zJ p l e R s m args below meth c Q nL (I) (cells) (slots) (pc + 1) (lv) (.int (-x) :: st))) : (zJ p l e R s m args below meth c Q nL (I) (cells) (slots) (pc) (lv) (.int x :: st)) := fun H locs ls hI hl => lv_ineg g.1 g.2.1 d (k H locs ls hI hl)
theorem z_ishl (g : zG p s m args meth c cc nL own ret D B0) {x y : Int32} (d : decode cc pc = .ok (.ishl, 1)) (k : (zJ p l e R s m args below meth c Q nL (I) (cells) (slots) (pc + 1) (lv) (.int (x <<< (y &&& 31)) :: st))) : (zJ p l e R s m args below meth c Q nL (I) (cells) (slots) (pc) (lv) (.int y :: .int x :: st)) := fun H locs ls hI hl => lv_ishl g.1 g.2.1 d (k H locs ls hI hl)
theorem z_ishr (g : zG p s m args meth c cc nL own ret D B0) {x y : Int32} (d : decode cc pc = .ok (.ishr, 1)) (k : (zJ p l e R s m args below meth c Q nL (I) (cells) (slots) (pc + 1) (lv) (.int (x >>> (y &&& 31)) :: st))) : (zJ p l e R s m args below meth c Q nL (I) (cells) (slots) (pc) (lv) (.int y :: .int x :: st)) := fun H locs ls hI hl => lv_ishr g.1 g.2.1 d (k H locs ls hI hl)
theorem z_iushr (g : zG p s m args meth c cc nL own ret D B0) {x y : Int32} (d : decode cc pc = .ok (.iushr, 1)) (k : (zJ p l e R s m args below meth c Q nL (I) (cells) (slots) (pc + 1) (lv) (.int (x.toUInt32 >>> (y.toUInt32 &&& Int32.toUInt32 31)).toInt32 :: st))) : (zJ p l e R s m args below meth c Q nL (I) (cells) (slots) (pc) (lv) (.int y :: .int x :: st)) := fun H locs ls hI hl => lv_iushr g.1 g.2.1 d rfl (k H locs ls hI hl)
theorem z_i2l (g : zG p s m args meth c cc nL own ret D B0) {x : Int32} (d : decode cc pc = .ok (.i2l, 1)) (k : (zJ p l e R s m args below meth c Q nL (I) (cells) (slots) (pc + 1) (lv) (.long x.toInt64 :: st))) : (zJ p l e R s m args below meth c Q nL (I) (cells) (slots) (pc) (lv) (.int x :: st)) := fun H locs ls hI hl => lv_i2l g.1 g.2.1 d rfl (k H locs ls hI hl)
theorem z_l2i (g : zG p s m args meth c cc nL own ret D B0) {x : Int64} (d : decode cc pc = .ok (.l2i, 1)) (k : (zJ p l e R s m args below meth c Q nL (I) (cells) (slots) (pc + 1) (lv) (.int x.toInt32 :: st))) : (zJ p l e R s m args below meth c Q nL (I) (cells) (slots) (pc) (lv) (.long x :: st)) := fun H locs ls hI hl => lv_l2i g.1 g.2.1 d rfl (k H locs ls hI hl)
theorem z_i2b (g : zG p s m args meth c cc nL own ret D B0) {x : Int32} (d : decode cc pc = .ok (.i2b, 1)) (k : (zJ p l e R s m args below meth c Q nL (I) (cells) (slots) (pc + 1) (lv) (.int x.toInt8.toInt32 :: st))) : (zJ p l e R s m args below meth c Q nL (I) (cells) (slots) (pc) (lv) (.int x :: st)) := fun H locs ls hI hl => lv_i2b g.1 g.2.1 d rfl (k H locs ls hI hl)
theorem z_i2s (g : zG p s m args meth c cc nL own ret D B0) {x : Int32} (d : decode cc pc = .ok (.i2s, 1)) (k : (zJ p l e R s m args below meth c Q nL (I) (cells) (slots) (pc + 1) (lv) (.int x.toInt16.toInt32 :: st))) : (zJ p l e R s m args below meth c Q nL (I) (cells) (slots) (pc) (lv) (.int x :: st)) := fun H locs ls hI hl => lv_i2s g.1 g.2.1 d rfl (k H locs ls hI hl)
theorem z_dup (g : zG p s m args meth c cc nL own ret D B0) {va : Value} (d : decode cc pc = .ok (.dup, 1)) (ha : va.category = 1) (k : (zJ p l e R s m args below meth c Q nL (I) (cells) (slots) (pc + 1) (lv) (va :: va :: st))) : (zJ p l e R s m args below meth c Q nL (I) (cells) (slots) (pc) (lv) (va :: st)) := fun H locs ls hI hl => lv_dup g.1 g.2.1 d ha (k H locs ls hI hl)
theorem z_pop (g : zG p s m args meth c cc nL own ret D B0) {va : Value} (d : decode cc pc = .ok (.pop, 1)) (ha : va.category = 1) (k : (zJ p l e R s m args below meth c Q nL (I) (cells) (slots) (pc + 1) (lv) (st))) : (zJ p l e R s m args below meth c Q nL (I) (cells) (slots) (pc) (lv) (va :: st)) := fun H locs ls hI hl => lv_pop g.1 g.2.1 d ha (k H locs ls hI hl)
theorem z_dup_x1 (g : zG p s m args meth c cc nL own ret D B0) {va vb : Value} (d : decode cc pc = .ok (.dup_x1, 1)) (ha : va.category = 1) (hb : vb.category = 1) (k : (zJ p l e R s m args below meth c Q nL (I) (cells) (slots) (pc + 1) (lv) (va :: vb :: va :: st))) : (zJ p l e R s m args below meth c Q nL (I) (cells) (slots) (pc) (lv) (va :: vb :: st)) := fun H locs ls hI hl => lv_dup_x1 g.1 g.2.1 d ha hb (k H locs ls hI hl)
theorem z_dup2 (g : zG p s m args meth c cc nL own ret D B0) {va vb : Value} (d : decode cc pc = .ok (.dup2, 1)) (ha : va.category = 1) (hb : vb.category = 1) (k : (zJ p l e R s m args below meth c Q nL (I) (cells) (slots) (pc + 1) (lv) (va :: vb :: va :: vb :: st))) : (zJ p l e R s m args below meth c Q nL (I) (cells) (slots) (pc) (lv) (va :: vb :: st)) := fun H locs ls hI hl => lv_dup2_11 g.1 g.2.1 d ha hb (k H locs ls hI hl)
theorem z_if_eq (g : zG p s m args meth c cc nL own ret D B0) {x : Int32} {off : Int} (tgt : Nat) (d : decode cc pc = .ok (.ifCond .eq off, 3)) (ht : (pc : Int) + off = (tgt : Int)) (kt : x = 0 → (zJ p l e R s m args below meth c Q nL (I) (cells) (slots) (tgt) (lv) (st))) (kf : ¬ x = 0 → (zJ p l e R s m args below meth c Q nL (I) (cells) (slots) (pc + 3) (lv) (st))) : (zJ p l e R s m args below meth c Q nL (I) (cells) (slots) (pc) (lv) (.int x :: st)) := fun H locs ls hI hl => lv_if_eq g.1 g.2.1 d ht (fun h => kt h H locs ls hI hl) (fun h => kf h H locs ls hI hl)
theorem z_icmp_eq (g : zG p s m args meth c cc nL own ret D B0) {x y : Int32} {off : Int} (tgt : Nat) (d : decode cc pc = .ok (.if_icmp .eq off, 3)) (ht : (pc : Int) + off = (tgt : Int)) (kt : x = y → (zJ p l e R s m args below meth c Q nL (I) (cells) (slots) (tgt) (lv) (st))) (kf : ¬ x = y → (zJ p l e R s m args below meth c Q nL (I) (cells) (slots) (pc + 3) (lv) (st))) : (zJ p l e R s m args below meth c Q nL (I) (cells) (slots) (pc) (lv) (.int y :: .int x :: st)) := fun H locs ls hI hl => lv_icmp_eq g.1 g.2.1 d ht (fun h => kt h H locs ls hI hl) (fun h => kf h H locs ls hI hl)
theorem z_if_ne (g : zG p s m args meth c cc nL own ret D B0) {x : Int32} {off : Int} (tgt : Nat) (d : decode cc pc = .ok (.ifCond .ne off, 3)) (ht : (pc : Int) + off = (tgt : Int)) (kt : ¬ x = 0 → (zJ p l e R s m args below meth c Q nL (I) (cells) (slots) (tgt) (lv) (st))) (kf : x = 0 → (zJ p l e R s m args below meth c Q nL (I) (cells) (slots) (pc + 3) (lv) (st))) : (zJ p l e R s m args below meth c Q nL (I) (cells) (slots) (pc) (lv) (.int x :: st)) := fun H locs ls hI hl => lv_if_ne g.1 g.2.1 d ht (fun h => kt h H locs ls hI hl) (fun h => kf h H locs ls hI hl)
theorem z_icmp_ne (g : zG p s m args meth c cc nL own ret D B0) {x y : Int32} {off : Int} (tgt : Nat) (d : decode cc pc = .ok (.if_icmp .ne off, 3)) (ht : (pc : Int) + off = (tgt : Int)) (kt : ¬ x = y → (zJ p l e R s m args below meth c Q nL (I) (cells) (slots) (tgt) (lv) (st))) (kf : x = y → (zJ p l e R s m args below meth c Q nL (I) (cells) (slots) (pc + 3) (lv) (st))) : (zJ p l e R s m args below meth c Q nL (I) (cells) (slots) (pc) (lv) (.int y :: .int x :: st)) := fun H locs ls hI hl => lv_icmp_ne g.1 g.2.1 d ht (fun h => kt h H locs ls hI hl) (fun h => kf h H locs ls hI hl)
theorem z_if_lt (g : zG p s m args meth c cc nL own ret D B0) {x : Int32} {off : Int} (tgt : Nat) (d : decode cc pc = .ok (.ifCond .lt off, 3)) (ht : (pc : Int) + off = (tgt : Int)) (kt : x < 0 → (zJ p l e R s m args below meth c Q nL (I) (cells) (slots) (tgt) (lv) (st))) (kf : ¬ x < 0 → (zJ p l e R s m args below meth c Q nL (I) (cells) (slots) (pc + 3) (lv) (st))) : (zJ p l e R s m args below meth c Q nL (I) (cells) (slots) (pc) (lv) (.int x :: st)) := fun H locs ls hI hl => lv_if_lt g.1 g.2.1 d ht (fun h => kt h H locs ls hI hl) (fun h => kf h H locs ls hI hl)
theorem z_icmp_lt (g : zG p s m args meth c cc nL own ret D B0) {x y : Int32} {off : Int} (tgt : Nat) (d : decode cc pc = .ok (.if_icmp .lt off, 3)) (ht : (pc : Int) + off = (tgt : Int)) (kt : x < y → (zJ p l e R s m args below meth c Q nL (I) (cells) (slots) (tgt) (lv) (st))) (kf : ¬ x < y → (zJ p l e R s m args below meth c Q nL (I) (cells) (slots) (pc + 3) (lv) (st))) : (zJ p l e R s m args below meth c Q nL (I) (cells) (slots) (pc) (lv) (.int y :: .int x :: st)) := fun H locs ls hI hl => lv_icmp_lt g.1 g.2.1 d ht (fun h => kt h H locs ls hI hl) (fun h => kf h H locs ls hI hl)
theorem z_if_ge (g : zG p s m args meth c cc nL own ret D B0) {x : Int32} {off : Int} (tgt : Nat) (d : decode cc pc = .ok (.ifCond .ge off, 3)) (ht : (pc : Int) + off = (tgt : Int)) (kt : 0 ≤ x → (zJ p l e R s m args below meth c Q nL (I) (cells) (slots) (tgt) (lv) (st))) (kf : ¬ 0 ≤ x → (zJ p l e R s m args below meth c Q nL (I) (cells) (slots) (pc + 3) (lv) (st))) : (zJ p l e R s m args below meth c Q nL (I) (cells) (slots) (pc) (lv) (.int x :: st)) := fun H locs ls hI hl => lv_if_ge g.1 g.2.1 d ht (fun h => kt h H locs ls hI hl) (fun h => kf h H locs ls hI hl)
theorem z_icmp_ge (g : zG p s m args meth c cc nL own ret D B0) {x y : Int32} {off : Int} (tgt : Nat) (d : decode cc pc = .ok (.if_icmp .ge off, 3)) (ht : (pc : Int) + off = (tgt : Int)) (kt : y ≤ x → (zJ p l e R s m args below meth c Q nL (I) (cells) (slots) (tgt) (lv) (st))) (kf : ¬ y ≤ x → (zJ p l e R s m args below meth c Q nL (I) (cells) (slots) (pc + 3) (lv) (st))) : (zJ p l e R s m args below meth c Q nL (I) (cells) (slots) (pc) (lv) (.int y :: .int x :: st)) := fun H locs ls hI hl => lv_icmp_ge g.1 g.2.1 d ht (fun h => kt h H locs ls hI hl) (fun h => kf h H locs ls hI hl)
theorem z_if_gt (g : zG p s m args meth c cc nL own ret D B0) {x : Int32} {off : Int} (tgt : Nat) (d : decode cc pc = .ok (.ifCond .gt off, 3)) (ht : (pc : Int) + off = (tgt : Int)) (kt : 0 < x → (zJ p l e R s m args below meth c Q nL (I) (cells) (slots) (tgt) (lv) (st))) (kf : ¬ 0 < x → (zJ p l e R s m args below meth c Q nL (I) (cells) (slots) (pc + 3) (lv) (st))) : (zJ p l e R s m args below meth c Q nL (I) (cells) (slots) (pc) (lv) (.int x :: st)) := fun H locs ls hI hl => lv_if_gt g.1 g.2.1 d ht (fun h => kt h H locs ls hI hl) (fun h => kf h H locs ls hI hl)
theorem z_icmp_gt (g : zG p s m args meth c cc nL own ret D B0) {x y : Int32} {off : Int} (tgt : Nat) (d : decode cc pc = .ok (.if_icmp .gt off, 3)) (ht : (pc : Int) + off = (tgt : Int)) (kt : y < x → (zJ p l e R s m args below meth c Q nL (I) (cells) (slots) (tgt) (lv) (st))) (kf : ¬ y < x → (zJ p l e R s m args below meth c Q nL (I) (cells) (slots) (pc + 3) (lv) (st))) : (zJ p l e R s m args below meth c Q nL (I) (cells) (slots) (pc) (lv) (.int y :: .int x :: st)) := fun H locs ls hI hl => lv_icmp_gt g.1 g.2.1 d ht (fun h => kt h H locs ls hI hl) (fun h => kf h H locs ls hI hl)
theorem z_if_le (g : zG p s m args meth c cc nL own ret D B0) {x : Int32} {off : Int} (tgt : Nat) (d : decode cc pc = .ok (.ifCond .le off, 3)) (ht : (pc : Int) + off = (tgt : Int)) (kt : x ≤ 0 → (zJ p l e R s m args below meth c Q nL (I) (cells) (slots) (tgt) (lv) (st))) (kf : ¬ x ≤ 0 → (zJ p l e R s m args below meth c Q nL (I) (cells) (slots) (pc + 3) (lv) (st))) : (zJ p l e R s m args below meth c Q nL (I) (cells) (slots) (pc) (lv) (.int x :: st)) := fun H locs ls hI hl => lv_if_le g.1 g.2.1 d ht (fun h => kt h H locs ls hI hl) (fun h => kf h H locs ls hI hl)
theorem z_icmp_le (g : zG p s m args meth c cc nL own ret D B0) {x y : Int32} {off : Int} (tgt : Nat) (d : decode cc pc = .ok (.if_icmp .le off, 3)) (ht : (pc : Int) + off = (tgt : Int)) (kt : x ≤ y → (zJ p l e R s m args below meth c Q nL (I) (cells) (slots) (tgt) (lv) (st))) (kf : ¬ x ≤ y → (zJ p l e R s m args below meth c Q nL (I) (cells) (slots) (pc + 3) (lv) (st))) : (zJ p l e R s m args below meth c Q nL (I) (cells) (slots) (pc) (lv) (.int y :: .int x :: st)) := fun H locs ls hI hl => lv_icmp_le g.1 g.2.1 d ht (fun h => kt h H locs ls hI hl) (fun h => kf h H locs ls hI hl)
theorem z_goto (g : zG p s m args meth c cc nL own ret D B0) {off : Int} (tgt : Nat) (d : decode cc pc = .ok (.goto off, 3)) (ht : (pc : Int) + off = (tgt : Int)) (k : (zJ p l e R s m args below meth c Q nL (I) (cells) (slots) (tgt) (lv) (st))) : (zJ p l e R s m args below meth c Q nL (I) (cells) (slots) (pc) (lv) (st)) := fun H locs ls hI hl => lv_goto g.1 g.2.1 d ht (k H locs ls hI hl)
theorem z_tableOut (g : zG p s m args meth c cc nL own ret D B0) {dflt lo hi : Int} {offs : Array Int} {len : Nat} {x : Int32} (tgt : Nat) (d : decode cc pc = .ok (.tableswitch dflt lo hi offs, len)) (h : x.toInt < lo ∨ hi < x.toInt) (ht : (pc : Int) + dflt = (tgt : Int)) (k : (zJ p l e R s m args below meth c Q nL (I) (cells) (slots) (tgt) (lv) (st))) : (zJ p l e R s m args below meth c Q nL (I) (cells) (slots) (pc) (lv) (.int x :: st)) := fun H locs ls hI hl => lv_tableOut g.1 g.2.1 d h ht (k H locs ls hI hl)
theorem z_tableIn (g : zG p s m args meth c cc nL own ret D B0) {dflt lo hi : Int} {offs : Array Int} {len : Nat} {x : Int32} {off : Int} (tgt : Nat) (d : decode cc pc = .ok (.tableswitch dflt lo hi offs, len)) (h1 : ¬ x.toInt < lo) (h2 : ¬ hi < x.toInt) (ho : offs[(x.toInt - lo).toNat]? = some off) (ht : (pc : Int) + off = (tgt : Int)) (k : (zJ p l e R s m args below meth c Q nL (I) (cells) (slots) (tgt) (lv) (st))) : (zJ p l e R s m args below meth c Q nL (I) (cells) (slots) (pc) (lv) (.int x :: st)) := fun H locs ls hI hl => lv_tableIn g.1 g.2.1 d h1 h2 ho ht (k H locs ls hI hl)
theorem z_ifnonnull (g : zG p s m args meth c cc nL own ret D B0) {x : Nat} {off : Int} (tgt : Nat) (d : decode cc pc = .ok (.ifnonnull off, 3)) (ht : (pc : Int) + off = (tgt : Int)) (k : (zJ p l e R s m args below meth c Q nL (I) (cells) (slots) (tgt) (lv) (st))) : (zJ p l e R s m args below meth c Q nL (I) (cells) (slots) (pc) (lv) (.ref x :: st)) := fun H locs ls hI hl => lv_ifnonnull g.1 g.2.1 d ht (k H locs ls hI hl)
theorem z_ifnonnullN (g : zG p s m args meth c cc nL own ret D B0) {off : Int} (d : decode cc pc = .ok (.ifnonnull off, 3)) (k : (zJ p l e R s m args below meth c Q nL (I) (cells) (slots) (pc + 3) (lv) (st))) : (zJ p l e R s m args below meth c Q nL (I) (cells) (slots) (pc) (lv) (.null :: st)) := fun H locs ls hI hl => lv_ifnonnullN g.1 g.2.1 d (k H locs ls hI hl)
theorem z_get (g : zG p s m args meth c cc nL own ret D B0) (o : zOK B0 D s ws I) {a ci : Nat} {fs : List Value} (hm : (a, .inr (ci, fs)) ∈ ws.flatten) {C : String} {T : u_T} {N : Nat} (hc : vwCl[ci]? = some (C, T, N)) (hin : ∀ w ∈ u_ws C T N, w ∈ lw_all) (k : Nat) (hk : k < N) {index : Nat} {ref : String} (q : Cond.fieldLink own index ref (T k).2.1 (T k).2.2.1 ∈ lw_all) (hsame : ∀ x, s.fieldFound? (T k).1 (T k).2.1 (T k).2.2.1 = some x → s.fieldFound? ref (T k).2.1 (T k).2.2.1 = some x) {v : Value} (hv : fs[k]? = some v) (d : decode cc pc = .ok (.getfield index, 3)) (kk : (zJ p l e R s m args below meth c Q nL (I) (cells) (slots) (pc + 3) (lv) (v :: st))) : (zJ p l e R s m args below meth c Q nL (I) (cells) (slots) (pc) (lv) (.ref a :: st)) := by
  intro H locs ls hI hl
  obtain ⟨q0, he⟩ := List.getElem?_of_mem hm
  exact va_get g.1 g.2.1 g.ts hin g.ow g.K (o H locs hI).1 q0 he hc k hk (g.ts _ q) hsame hv d (kk H locs ls hI hl)
theorem z_put (g : zG p s m args meth c cc nL own ret D B0) (hA : zA s A B0) (q0 : Nat) {a ci : Nat} {fs : List Value} (he : ws.flatten[q0]? = some (a, .inr (ci, fs))) {C : String} {T : u_T} {N : Nat} (hc : vwCl[ci]? = some (C, T, N)) (hin : ∀ w ∈ u_ws C T N, w ∈ lw_all) (ty0 : Nat → FieldType) (hty : ∀ k, k < N → parseFieldDescriptor (T k).2.2.1 = some (ty0 k)) (hnm : ∀ a, a < N → ∀ b, b < N → a ≠ b → (T a).2.1 ≠ (T b).2.1) (k : Nat) (hk : k < N) {index : Nat} {ref : String} (q : Cond.fieldLink own index ref (T k).2.1 (T k).2.2.1 ∈ lw_all) (hsame : ∀ x, s.fieldFound? (T k).1 (T k).2.1 (T k).2.2.1 = some x → s.fieldFound? ref (T k).2.1 (T k).2.2.1 = some x) (hfin : (T k).2.2.2 = false) {v : Value} (hn : narrow (ty0 k) v = v) (hfit : fits (ty0 k) v = true) (hlen : k < fs.length) (ws' : List va_W) (hws : ws.flatten.set q0 (a, .inr (ci, fs.set k v)) = ws'.flatten) (d : decode cc pc = .ok (.putfield index, 3)) (kk : (zJ p l e R s m args below meth c Q nL (zI D A s ws') (cells) (slots) (pc + 3) (lv) (st))) : (zJ p l e R s m args below meth c Q nL (zI D A s ws) (cells) (slots) (pc) (lv) (v :: .ref a :: st)) := by
  intro H locs ls hI hl
  refine va_put g.1 g.2.1 g.ts hin ty0 hty hnm g.ow g.K hI.1 hI.2.1 hI.2.2 q0 he hc k hk (g.ts _ q) hsame hfin (hty k hk) hn hfit hlen d (fun H1 locs1 h1 h2 h3 => ?_)
  rw [hws] at h1 h2
  exact kk H1 locs1 ls ⟨h1, h2, h3⟩ hl
theorem z_putF (g : zG p s m args meth c cc nL own ret D B0) (hA : zA s A B0) (hini : meth.name = "<init>") (q0 : Nat) {a ci : Nat} {fs : List Value} (he : ws.flatten[q0]? = some (a, .inr (ci, fs))) {C : String} {T : u_T} {N : Nat} (hc : vwCl[ci]? = some (C, T, N)) (hin : ∀ w ∈ u_ws C T N, w ∈ lw_all) (ty0 : Nat → FieldType) (hty : ∀ k, k < N → parseFieldDescriptor (T k).2.2.1 = some (ty0 k)) (hnm : ∀ a, a < N → ∀ b, b < N → a ≠ b → (T a).2.1 ≠ (T b).2.1) (k : Nat) (hk : k < N) {index : Nat} {ref : String} (q : Cond.fieldLink own index ref (T k).2.1 (T k).2.2.1 ∈ lw_all) (hsame : ∀ x, s.fieldFound? (T k).1 (T k).2.1 (T k).2.2.1 = some x → s.fieldFound? ref (T k).2.1 (T k).2.2.1 = some x) (hfin : (T k).2.2.2 = true) (hdecl : (T k).1 = own) {v : Value} (hn : narrow (ty0 k) v = v) (hfit : fits (ty0 k) v = true) (hlen : k < fs.length) (ws' : List va_W) (hws : ws.flatten.set q0 (a, .inr (ci, fs.set k v)) = ws'.flatten) (d : decode cc pc = .ok (.putfield index, 3)) (kk : (zJ p l e R s m args below meth c Q nL (zI D A s ws') (cells) (slots) (pc + 3) (lv) (st))) : (zJ p l e R s m args below meth c Q nL (zI D A s ws) (cells) (slots) (pc) (lv) (v :: .ref a :: st)) := by
  intro H locs ls hI hl
  refine va_putF g.1 g.2.1 g.ts hin ty0 hty hnm g.ow g.K hI.1 hI.2.1 hI.2.2 q0 he hc k hk (g.ts _ q) hsame hfin hini hdecl (hty k hk) hn hfit hlen d (fun H1 locs1 h1 h2 h3 => ?_)
  rw [hws] at h1 h2
  exact kk H1 locs1 ls ⟨h1, h2, h3⟩ hl
theorem z_iald (g : zG p s m args meth c cc nL own ret D B0) (o : zOK B0 D s ws I) {a n j : Nat} {f : Nat → Int32} (hm : (a, .inl (D.1 100, n, .inl f)) ∈ ws.flatten) (hj : j < n) (hn : n < 2147483648) (d : decode cc pc = .ok (.iaload, 1)) (kk : (zJ p l e R s m args below meth c Q nL (I) (cells) (slots) (pc + 1) (lv) (.int (f j) :: st))) : (zJ p l e R s m args below meth c Q nL (I) (cells) (slots) (pc) (lv) (.int (nI j) :: .ref a :: st)) := by
  intro H locs ls hI hl
  obtain ⟨q0, he⟩ := List.getElem?_of_mem hm
  refine va_iald g.1 g.2.1 g.K (o H locs hI).1 q0 0 he rfl (vp_in_nI hj hn) d ?_
  rw [nI_clamp (show j < 2 ^ 31 by omega)]
  exact kk H locs ls hI hl
theorem z_bald (g : zG p s m args meth c cc nL own ret D B0) (o : zOK B0 D s ws I) {a n j : Nat} {f : Nat → Int32} (hm : (a, .inl (D.1 101, n, .inl f)) ∈ ws.flatten) (hj : j < n) (hn : n < 2147483648) (d : decode cc pc = .ok (.baload, 1)) (kk : (zJ p l e R s m args below meth c Q nL (I) (cells) (slots) (pc + 1) (lv) (.int (f j) :: st))) : (zJ p l e R s m args below meth c Q nL (I) (cells) (slots) (pc) (lv) (.int (nI j) :: .ref a :: st)) := by
  intro H locs ls hI hl
  obtain ⟨q0, he⟩ := List.getElem?_of_mem hm
  refine va_bald g.1 g.2.1 g.K (o H locs hI).1 q0 1 he rfl (vp_in_nI hj hn) d ?_
  rw [nI_clamp (show j < 2 ^ 31 by omega)]
  exact kk H locs ls hI hl
theorem z_sald (g : zG p s m args meth c cc nL own ret D B0) (o : zOK B0 D s ws I) {a n j : Nat} {f : Nat → Int32} (hm : (a, .inl (D.1 102, n, .inl f)) ∈ ws.flatten) (hj : j < n) (hn : n < 2147483648) (d : decode cc pc = .ok (.saload, 1)) (kk : (zJ p l e R s m args below meth c Q nL (I) (cells) (slots) (pc + 1) (lv) (.int (f j) :: st))) : (zJ p l e R s m args below meth c Q nL (I) (cells) (slots) (pc) (lv) (.int (nI j) :: .ref a :: st)) := by
  intro H locs ls hI hl
  obtain ⟨q0, he⟩ := List.getElem?_of_mem hm
  refine va_sald g.1 g.2.1 g.K (o H locs hI).1 q0 2 he rfl (vp_in_nI hj hn) d ?_
  rw [nI_clamp (show j < 2 ^ 31 by omega)]
  exact kk H locs ls hI hl
theorem z_zald (g : zG p s m args meth c cc nL own ret D B0) (o : zOK B0 D s ws I) {a n j : Nat} {f : Nat → Int32} (hm : (a, .inl (D.1 103, n, .inl f)) ∈ ws.flatten) (hj : j < n) (hn : n < 2147483648) (d : decode cc pc = .ok (.baload, 1)) (kk : (zJ p l e R s m args below meth c Q nL (I) (cells) (slots) (pc + 1) (lv) (.int (f j) :: st))) : (zJ p l e R s m args below meth c Q nL (I) (cells) (slots) (pc) (lv) (.int (nI j) :: .ref a :: st)) := by
  intro H locs ls hI hl
  obtain ⟨q0, he⟩ := List.getElem?_of_mem hm
  refine va_zald g.1 g.2.1 g.K (o H locs hI).1 q0 3 he rfl (vp_in_nI hj hn) d ?_
  rw [nI_clamp (show j < 2 ^ 31 by omega)]
  exact kk H locs ls hI hl
theorem z_iast (g : zG p s m args meth c cc nL own ret D B0) (hA : zA s A B0) (q0 : Nat) {a n j : Nat} {f : Nat → Int32} {x : Int32} (he : ws.flatten[q0]? = some (a, .inl (D.1 100, n, .inl f))) (hj : j < n) (hn : n < 2147483648) (ws' : List va_W) (hws : ws.flatten.set q0 (a, .inl (D.1 100, n, .inl (upd f j (x)))) = ws'.flatten) (d : decode cc pc = .ok (.iastore, 1)) (kk : (zJ p l e R s m args below meth c Q nL (zI D A s ws') (cells) (slots) (pc + 1) (lv) (st))) : (zJ p l e R s m args below meth c Q nL (zI D A s ws) (cells) (slots) (pc) (lv) (.int x :: .int (nI j) :: .ref a :: st)) := by
  intro H locs ls hI hl
  refine va_iast g.1 g.2.1 g.K hI.1 hI.2.1 hI.2.2 q0 0 he rfl (vp_in_nI hj hn) d (fun H1 locs1 h1 h2 h3 => ?_)
  rw [nI_clamp (show j < 2 ^ 31 by omega), hws] at h1 h2
  exact kk H1 locs1 ls ⟨h1, h2, h3⟩ hl
theorem z_bast (g : zG p s m args meth c cc nL own ret D B0) (hA : zA s A B0) (q0 : Nat) {a n j : Nat} {f : Nat → Int32} {x : Int32} (he : ws.flatten[q0]? = some (a, .inl (D.1 101, n, .inl f))) (hj : j < n) (hn : n < 2147483648) (ws' : List va_W) (hws : ws.flatten.set q0 (a, .inl (D.1 101, n, .inl (upd f j (vp_nar .byte x)))) = ws'.flatten) (d : decode cc pc = .ok (.bastore, 1)) (kk : (zJ p l e R s m args below meth c Q nL (zI D A s ws') (cells) (slots) (pc + 1) (lv) (st))) : (zJ p l e R s m args below meth c Q nL (zI D A s ws) (cells) (slots) (pc) (lv) (.int x :: .int (nI j) :: .ref a :: st)) := by
  intro H locs ls hI hl
  refine va_bast g.1 g.2.1 g.K hI.1 hI.2.1 hI.2.2 q0 1 he rfl (vp_in_nI hj hn) d (fun H1 locs1 h1 h2 h3 => ?_)
  rw [nI_clamp (show j < 2 ^ 31 by omega), hws] at h1 h2
  exact kk H1 locs1 ls ⟨h1, h2, h3⟩ hl
theorem z_sast (g : zG p s m args meth c cc nL own ret D B0) (hA : zA s A B0) (q0 : Nat) {a n j : Nat} {f : Nat → Int32} {x : Int32} (he : ws.flatten[q0]? = some (a, .inl (D.1 102, n, .inl f))) (hj : j < n) (hn : n < 2147483648) (ws' : List va_W) (hws : ws.flatten.set q0 (a, .inl (D.1 102, n, .inl (upd f j (vp_nar .short x)))) = ws'.flatten) (d : decode cc pc = .ok (.sastore, 1)) (kk : (zJ p l e R s m args below meth c Q nL (zI D A s ws') (cells) (slots) (pc + 1) (lv) (st))) : (zJ p l e R s m args below meth c Q nL (zI D A s ws) (cells) (slots) (pc) (lv) (.int x :: .int (nI j) :: .ref a :: st)) := by
  intro H locs ls hI hl
  refine va_sast g.1 g.2.1 g.K hI.1 hI.2.1 hI.2.2 q0 2 he rfl (vp_in_nI hj hn) d (fun H1 locs1 h1 h2 h3 => ?_)
  rw [nI_clamp (show j < 2 ^ 31 by omega), hws] at h1 h2
  exact kk H1 locs1 ls ⟨h1, h2, h3⟩ hl
theorem z_zast (g : zG p s m args meth c cc nL own ret D B0) (hA : zA s A B0) (q0 : Nat) {a n j : Nat} {f : Nat → Int32} {x : Int32} (he : ws.flatten[q0]? = some (a, .inl (D.1 103, n, .inl f))) (hj : j < n) (hn : n < 2147483648) (ws' : List va_W) (hws : ws.flatten.set q0 (a, .inl (D.1 103, n, .inl (upd f j (vp_nar .boolean x)))) = ws'.flatten) (d : decode cc pc = .ok (.bastore, 1)) (kk : (zJ p l e R s m args below meth c Q nL (zI D A s ws') (cells) (slots) (pc + 1) (lv) (st))) : (zJ p l e R s m args below meth c Q nL (zI D A s ws) (cells) (slots) (pc) (lv) (.int x :: .int (nI j) :: .ref a :: st)) := by
  intro H locs ls hI hl
  refine va_zast g.1 g.2.1 g.K hI.1 hI.2.1 hI.2.2 q0 3 he rfl (vp_in_nI hj hn) d (fun H1 locs1 h1 h2 h3 => ?_)
  rw [nI_clamp (show j < 2 ^ 31 by omega), hws] at h1 h2
  exact kk H1 locs1 ls ⟨h1, h2, h3⟩ hl
theorem z_alen (g : zG p s m args meth c cc nL own ret D B0) (o : zOK B0 D s ws I) {a : Nat} {cA : ClassId} {x : vp_A} (hm : (a, .inl (cA, x)) ∈ ws.flatten) (t0 : Nat) {ty : FieldType} (ht : (zTy D)[t0]? = some (cA, ty)) (d : decode cc pc = .ok (.arraylength, 1)) (kk : (zJ p l e R s m args below meth c Q nL (I) (cells) (slots) (pc + 1) (lv) (.int (nI x.1) :: st))) : (zJ p l e R s m args below meth c Q nL (I) (cells) (slots) (pc) (lv) (.ref a :: st)) := by
  intro H locs ls hI hl
  obtain ⟨q0, he⟩ := List.getElem?_of_mem hm
  exact va_alen (v := nI x.1) g.1 g.2.1 g.K (o H locs hI).1 q0 t0 he ht rfl d (kk H locs ls hI hl)
theorem z_new (g : zG p s m args meth c cc nL own ret D B0) (hA : zA s A B0) {ci index : Nat} {C : String} {T : u_T} {N : Nat} (hc : vwCl[ci]? = some (C, T, N)) (hin : ∀ w ∈ u_ws C T N, w ∈ lw_all) (ty0 : Nat → FieldType) (hty : ∀ k, k < N → parseFieldDescriptor (T k).2.2.1 = some (ty0 k)) (q1 : Cond.classLink own index C ∈ lw_all) (q2 : Cond.instantiable C N ∈ lw_all) (q3 : Cond.initialized C ∈ lw_all) (fs : List Value) (hfs : ∀ j, j < N → defaultValue (ty0 j) = vp_V fs j) (hcells : cells + 1 ≤ R.cells) (hslots : slots + N ≤ R.slots) (d : decode cc pc = .ok (.new index, 3)) (kk : ∀ q : Nat, (zJ p l e R s m args below meth c Q nL (zI D A s (ws ++ [[(q, .inr (ci, fs))]])) (cells + 1) (slots + N) (pc + 3) (lv) (.ref q :: st))) : (zJ p l e R s m args below meth c Q nL (zI D A s ws) (cells) (slots) (pc) (lv) (st)) := by
  intro H locs ls hI hl
  refine va_new g.1 g.2.1 g.ts hin ty0 hty g.ow (g.ts _ q1) (g.ts _ q2) (g.ts _ q3) g.K hI.1 hI.2.1 hI.2.2 hA.1 hc hfs hcells hslots d (fun q H1 h1 h2 h3 => ?_)
  have e : (ws ++ [[(q, (Sum.inr (ci, fs) : va_E))]]).flatten = ws.flatten ++ [(q, (Sum.inr (ci, fs) : va_E))] := by rw [List.flatten_append]; simp
  exact kk q H1 locs ls ⟨by rw [e]; exact h1, by rw [e]; exact h2, h3⟩ hl
theorem z_newa (g : zG p s m args meth c cc nL own ret D B0) (hA : zA s A B0) {atype : ArrayType} {ty : FieldType} (t0 : Nat) {cA : ClassId} (ht : (zTy D)[t0]? = some (cA, ty)) (hty : newarray.typeOf atype = ty) (hob : ∀ C, ty ≠ .object C) (q1 : Cond.arrayClass ty ∈ lw_all) {N' : Nat} (a0 : vp_A) (ha : ∀ cA : ClassId, vp_cell cA a0 = arrV cA N' (fun _ => defaultValue ty)) (hN31 : N' < 2147483648) (hbytes : N' * componentBytes ty ≤ 536870912) (hcells : cells + 1 ≤ R.cells) (hslots : slots + N' ≤ R.slots) (d : decode cc pc = .ok (.newarray atype, 2)) (kk : ∀ q : Nat, (zJ p l e R s m args below meth c Q nL (zI D A s (ws ++ [[(q, .inl (cA, a0))]])) (cells + 1) (slots + N') (pc + 2) (lv) (.ref q :: st))) : (zJ p l e R s m args below meth c Q nL (zI D A s ws) (cells) (slots) (pc) (lv) (.int (nI N') :: st)) := by
  intro H locs ls hI hl
  subst hty
  refine va_newa g.1 g.2.1 (g.ts _ q1) rfl g.K hI.1 hI.2.1 hI.2.2 hA.1 ha (nI_pos (by omega)) (nI_clamp (by omega)) hbytes hcells hslots d (fun q cB H1 h0 h1 h2 h3 => ?_)
  have k1 := (g.K.2 t0 _ ht).2
  have k2 := (h0.2 (zTy D).length (cB, newarray.typeOf atype) (by rw [List.getElem?_append_right (Nat.le_refl _), Nat.sub_self]; rfl)).2
  have hcc : cB = cA := by cases atype <;> exact Option.some.inj (k2.symm.trans k1)
  subst hcc
  have e : (ws ++ [[(q, (Sum.inl (cB, a0) : va_E))]]).flatten = ws.flatten ++ [(q, (Sum.inl (cB, a0) : va_E))] := by rw [List.flatten_append]; simp
  exact kk q H1 locs ls ⟨by rw [e]; exact h1, by rw [e]; exact h2, h3⟩ hl
theorem z_objInit (g : zG p s m args meth c cc nL own ret D B0) {idx : Nat} {a : Nat} (q1 : Cond.methodLink own idx Lib.objectInit ∈ lw_all) (q2 : Cond.instanceMethod Lib.objectInit ∈ lw_all) (q3 : Cond.code Lib.objectInit ⟨#[0xb1]⟩ 1 none ∈ lw_all) (d : decode cc pc = .ok (.invokespecial idx, 3)) (hf : 1 ≤ R.frames) (hlo : (st.map fun v => v.category).sum + 12 ≤ R.locals) (kk : (zJ p l e R s m args below meth c Q nL (I) (cells) (slots) (pc + 3) (lv) (st))) : (zJ p l e R s m args below meth c Q nL (I) (cells) (slots) (pc) (lv) (.ref a :: st)) := by
  intro H locs ls hI hl
  refine W.objInit g.1 g.2.1 g.ow (g.ts _ q1) (g.ts _ q2) (g.ts _ q3) rfl (hl.1.trans g.2.2.1.symm) rfl d hf ?_ (kk H locs ls hI hl)
  have h0 : (F0 m pc ls (.ref a :: st)).monitorRoom = 0 := rfl
  rw [h0, Nat.mul_zero, Nat.zero_add]
  exact hlo
theorem z_ret_of {S : Type} {post : S → Prop} {val : S → Option Value} {w1 : S → List va_W} {H : Heap} {locs : List Loc} {t : State} (hI : zI D A s ws H locs) (u : S) {v : Option Value} (hu : post u) (hv : val u = v) (hw : w1 u = ws) (ht : t.heap = H) : zQ post val w1 D A args s (.returned v) t := ⟨⟨u, by rw [hv], hu, by rw [hw, ht]; exact hI.1, by rw [hw]; exact hI.2.1⟩, hI.2.2.F ht⟩
theorem z_iret {ty : FieldType} {S : Type} {post : S → Prop} {val : S → Option Value} {w1 : S → List va_W} {mc ms : Nat} (g : zG p s m args meth c cc nL own (some ty) D B0) (hQ : Q = MQ below (zQ post val w1 D A) args s mc ms A) {v : Int32} (hn : narrow ty (.int v) = .int v) (u : S) (hu : post u) (hv : val u = some (.int v)) (hw : w1 u = ws) (hc : cells ≤ mc) (hs : slots ≤ ms) (d : decode cc pc = .ok (.ireturn, 1)) : (zJ p l e R s m args below meth c Q nL (zI D A s ws) (cells) (slots) (pc) (lv) ([.int v])) := by
  intro H locs ls hI hl
  subst hQ
  refine W.widen hc hs ?_
  exact W.zret g.1 g.2.1 g.2.2.2.2.2.1 hn (fun t ht hW => z_ret_of hI u hu hv hw ht) hI.2.2.2.2 d g.2.2.2.2.2.2.1
theorem z_vret {S : Type} {post : S → Prop} {val : S → Option Value} {w1 : S → List va_W} {mc ms : Nat} (g : zG p s m args meth c cc nL own none D B0) (hQ : Q = MQ below (zQ post val w1 D A) args s mc ms A) (u : S) (hu : post u) (hv : val u = none) (hw : w1 u = ws) (hc : cells ≤ mc) (hs : slots ≤ ms) (d : decode cc pc = .ok (.return_, 1)) : (zJ p l e R s m args below meth c Q nL (zI D A s ws) (cells) (slots) (pc) (lv) ([])) := by
  intro H locs ls hI hl
  subst hQ
  refine W.widen hc hs ?_
  exact W.vret g.1 g.2.1 g.2.2.2.2.2.1 (fun t ht hW => z_ret_of hI u hu hv hw ht) hI.2.2.2.2 d g.2.2.2.2.2.2.1
theorem z_aret {rt : FieldType} {S : Type} {post : S → Prop} {val : S → Option Value} {w1 : S → List va_W} {mc ms : Nat} (g : zG p s m args meth c cc nL own (some rt) D B0) (hQ : Q = MQ below (zQ post val w1 D A) args s mc ms A) {v : Value} (hrt : (∃ n, rt = .object n) ∨ ∃ t, rt = .array t) (hv0 : v = .null ∨ ∃ a, v = .ref a) (u : S) (hu : post u) (hv : val u = some v) (hw : w1 u = ws) (hc : cells ≤ mc) (hs : slots ≤ ms) (d : decode cc pc = .ok (.areturn, 1)) : (zJ p l e R s m args below meth c Q nL (zI D A s ws) (cells) (slots) (pc) (lv) ([v])) := by
  intro H locs ls hI hl
  subst hQ
  refine W.widen hc hs ?_
  exact W.aret g.1 g.2.1 g.2.2.2.2.2.1 hrt hv0 (fun t ht hW => z_ret_of hI u hu hv hw ht) hI.2.2.2.2 d g.2.2.2.2.2.2.1
theorem z_ireto {ty : FieldType} {S : Type} {post : S → Prop} {val : S → Option Value} (g : zG p s m args meth c cc nL own (some ty) D B0) (hQ : Q = MQ below (zQo post val) args s 0 0 (fun _ => False)) {v : Int32} (hn : narrow ty (.int v) = .int v) (u : S) (hu : post u) (hv : val u = some (.int v)) (d : decode cc pc = .ok (.ireturn, 1)) : (zJ p l e R s m args below meth c Q nL (zIo D s ws) (0) (0) (pc) (lv) ([.int v])) := by
  intro H locs ls hI hl
  subst hQ
  exact W.zret g.1 g.2.1 g.2.2.2.2.2.1 hn (fun t ht hW => ⟨u, by rw [hv], hu, by rw [ht, hI.2.1]⟩) (by rw [hI.2.2]; exact fun q hq => absurd hq List.not_mem_nil) d g.2.2.2.2.2.2.1
theorem z_vreto {S : Type} {post : S → Prop} {val : S → Option Value} (g : zG p s m args meth c cc nL own none D B0) (hQ : Q = MQ below (zQo post val) args s 0 0 (fun _ => False)) (u : S) (hu : post u) (hv : val u = none) (d : decode cc pc = .ok (.return_, 1)) : (zJ p l e R s m args below meth c Q nL (zIo D s ws) (0) (0) (pc) (lv) ([])) := by
  intro H locs ls hI hl
  subst hQ
  exact W.vret g.1 g.2.1 g.2.2.2.2.2.1 (fun t ht hW => ⟨u, by rw [hv], hu, by rw [ht, hI.2.1]⟩) (by rw [hI.2.2]; exact fun q hq => absurd hq List.not_mem_nil) d g.2.2.2.2.2.2.1
theorem z_areto {rt : FieldType} {S : Type} {post : S → Prop} {val : S → Option Value} (g : zG p s m args meth c cc nL own (some rt) D B0) (hQ : Q = MQ below (zQo post val) args s 0 0 (fun _ => False)) {v : Value} (hrt : (∃ n, rt = .object n) ∨ ∃ t, rt = .array t) (hv0 : v = .null ∨ ∃ a, v = .ref a) (u : S) (hu : post u) (hv : val u = some v) (d : decode cc pc = .ok (.areturn, 1)) : (zJ p l e R s m args below meth c Q nL (zIo D s ws) (0) (0) (pc) (lv) ([v])) := by
  intro H locs ls hI hl
  subst hQ
  exact W.aret g.1 g.2.1 g.2.2.2.2.2.1 hrt hv0 (fun t ht hW => ⟨u, by rw [hv], hu, by rw [ht, hI.2.1]⟩) (by rw [hI.2.2]; exact fun q hq => absurd hq List.not_mem_nil) d g.2.2.2.2.2.2.1
theorem z_entry {y : MethodName} {rm : Room} {av : List Value} {w0 : List va_W} {Qc : Array Value → State → Outcome → State → Prop} {mc ms : Nat} (hy : plainName y.cls = true) (hav : (lg_sl av).length ≤ nL)
    (body : ∀ p e s m args below meth c Q, Q = MQ below Qc args s mc ms A → zG p s m args meth c cc nL y.cls ret D B0 → zA s A B0 → meth.name = y.name → zJ p l e rm s m args below meth c Q nL (zI D A s w0) 0 0 0 (lv_args 0 av) []) :
    Met l y (ws_ y cc nL ret) rm (va_Pc av (zPre B0 D A w0)) Qc mc ms A := by
  refine Met.ofW (cc := cc) (maxL := nL) (ret := ret) hy rfl ?_
  intro p e s m args below meth c s₁ B hml hv
  obtain ⟨rfl, hK, hP, hD, hA1, hA2⟩ := hv
  have hts := atoms_spec (ws := ws_ y cc nL ret) B.pre
  have hts : ∀ w ∈ lw_all, w.before _ s = true := fun w h => hts w (List.mem_cons_of_mem _ h)
  rw [lg_entry_eq]
  exact body p e s m _ below meth c _ rfl ⟨B.exec, B.bytes, hml, findClass_of_methodNamed B.named, hts, B.returns, B.notSynchronized, hK⟩ ⟨hA1, hA2⟩ (name_of_methodNamed B.named B.method).1 s.heap [] _ ⟨hP, hD, va_S.rf⟩ (lv_entry av hav)
theorem z_entryo {y : MethodName} {rm : Room} {av : List Value} {w0 : List va_W} {Qc : Array Value → State → Outcome → State → Prop} (hy : plainName y.cls = true) (hav : (lg_sl av).length ≤ nL)
    (body : ∀ p e s m args below meth c Q, Q = MQ below Qc args s 0 0 (fun _ => False) → zG p s m args meth c cc nL y.cls ret D B0 → zJ p l e rm s m args below meth c Q nL (zIo D s w0) 0 0 0 (lv_args 0 av) []) :
    Met l y (ws_ y cc nL ret) rm (va_Pc av (zPreO B0 D w0)) Qc 0 0 (fun _ => False) := by
  refine Met.ofW (cc := cc) (maxL := nL) (ret := ret) hy rfl ?_
  intro p e s m args below meth c s₁ B hml hv
  obtain ⟨rfl, hK, hP⟩ := hv
  have hts := atoms_spec (ws := ws_ y cc nL ret) B.pre
  have hts : ∀ w ∈ lw_all, w.before _ s = true := fun w h => hts w (List.mem_cons_of_mem _ h)
  rw [lg_entry_eq]
  exact body p e s m _ below meth c _ rfl ⟨B.exec, B.bytes, hml, findClass_of_methodNamed B.named, hts, B.returns, B.notSynchronized, hK⟩ s.heap [] _ ⟨hP, rfl, rfl⟩ (lv_entry av hav)
def zHd (y : MethodName) (n : Nat) : Prop := y.cls ≠ "java/lang/invoke/MethodHandle" ∧ y.cls ≠ "java/lang/invoke/VarHandle" ∧ (parseMethodDescriptor y.desc).map (fun d => d.parameters.length) = some n
theorem z_obs {S : Type} {post : S → Prop} {val : S → Option Value} {st0 rest : List Value} {len : Nat} {a : Array Value} (o : zOK B0 D s ws I)
    (hr : ∀ (H : Heap) (locs : List Loc) (ls : Array Slot), I H locs → lv_has ls nL lv → va_Run p l e R s m args below meth c H locs cells slots 0 0 (F0 m pc ls st0) rest (zQo post val a) (fun _ => False))
    (kk : ∀ u : S, post u → (zJ p l e R s m args below meth c Q nL (I) (cells) (slots) (pc + 3) (lv) ((val u).toList ++ rest))) : (zJ p l e R s m args below meth c Q nL (I) (cells) (slots) (pc) (lv) (st0)) := by
  intro H locs ls hI hl T hT X
  obtain ⟨v, st₀, t, T', L, h0, X', hL, e1, e2, ⟨u, hv, hp, hh⟩, stp⟩ := hr H locs ls hI hl T hT X
  cases hv
  obtain ⟨t2, a1, b1⟩ := kk u hp H locs ls hI hl T' (by rw [e1, hh, h0]) (Stand.forget X' (fun q h => (hL q h).elim))
  exact ⟨t2, stp t2 a1, b1⟩
theorem z_preo {y : MethodName} {H : Heap} {locs : List Loc} {av : List Value} (g : zG p s m args meth c cc nL own ret D B0) (o : zOK B0 D s ws I) (hI : I H locs) (is : List Nat) (hwc : zPick ws is = wc) : ∀ U : State, U.heap = H → s.WarmedH U.vm → va_Pc av (zPreO B0 D wc) av.toArray U := by
  intro U hU hW
  obtain ⟨h1, h2, h3, -⟩ := o H locs hI
  refine ⟨rfl, g.zk.moved hW (by rw [hU]; exact Nat.le_trans g.zk.1 h2) (fun q hq => by rw [hU]; exact h3 q hq), ?_⟩
  rw [hU, ← hwc]
  exact zP_mem h1 (zPick_sub ws is)
theorem z_recv {H : Heap} {w : va_W} {b ci : Nat} {fs : List Value} {r : vw_C} (hK : va_K D vwCl (zTy D) s) (hP : va_P D vwCl w H) (hm : (b, .inr (ci, fs)) ∈ w) (hc : vwCl[ci]? = some r) : ∃ cell : Cell, H[b]? = some cell ∧ cell.vm.isStatics = false ∧ s.vm.findClass r.1 = some cell.cls := by
  obtain ⟨q0, he⟩ := List.getElem?_of_mem hm
  exact va_recv hK hP hc he
/-- a static observer -/
theorem z_cOS {S : Type} {post : S → Prop} {val : S → Option Value} {y : MethodName} {bytes : ByteArray} {maxL n index : Nat} {rety : Option FieldType} {rm : Room} (g : zG p s m args meth c cc nL own ret D B0) (o : zOK B0 D s ws I) (As rest : List Value) {st0 : List Value} (is : List Nat) (hM : Met l y (ws_ y bytes maxL rety) rm (va_Pc As (zPreO B0 D wc)) (zQo post val) 0 0 (fun _ => False)) (q1 : Cond.methodLink own index y ∈ lw_all) (q2 : Cond.static y ∈ lw_all) (q3 : Cond.initialized y.cls ∈ lw_all) (q4 : Cond.code y bytes maxL rety ∈ lw_all) (hd : zHd y n) (hrm : rm.cells = 0 ∧ rm.slots = 0) (hR : rm.frames + 1 ≤ R.frames ∧ 8 + (maxL + 11) + rm.locals ≤ R.locals) (hwc : zPick ws is = wc) (hn : As.length = n) (hst : st0 = As.reverse ++ rest) (hro : (rest.map fun v => v.category).sum ≤ 8) (hf : cells ≤ R.cells ∧ slots ≤ R.slots) (d : decode cc pc = .ok (.invokestatic index, 3)) (kk : ∀ u : S, post u → (zJ p l e R s m args below meth c Q nL (I) (cells) (slots) (pc + 3) (lv) ((val u).toList ++ rest))) : (zJ p l e R s m args below meth c Q nL (I) (cells) (slots) (pc) (lv) (st0)) :=
  z_obs (len := 0) o (fun H locs ls hI hl => va_runS g.fix hM (va_cwS n g.ts (lw_S q1 q2 q3 q4) rfl hrm.1 hrm.2 hd hR) ⟨zPreO.blind, z_preo (y := y) g o hI is hwc⟩ rfl hn hl.1 hst (lv_room hro) d hf) kk
/-- an observer through an object -/
theorem z_cOV {S : Type} {post : S → Prop} {val : S → Option Value} {y : MethodName} {bytes : ByteArray} {maxL n index b ci : Nat} {fs : List Value} {r : vw_C} {rety : Option FieldType} {rm : Room} (g : zG p s m args meth c cc nL own ret D B0) (o : zOK B0 D s ws I) (As rest : List Value) {st0 : List Value} (is : List Nat) (hM : Met l y (ws_ y bytes maxL rety) rm (va_Pc (.ref b :: As) (zPreO B0 D wc)) (zQo post val) 0 0 (fun _ => False)) (q1 : Cond.methodLink own index y ∈ lw_all) (q2 : Cond.instanceMethod y ∈ lw_all) (q3 : Cond.selects r.1 y y ∈ lw_all) (q4 : Cond.initialized r.1 ∈ lw_all) (q5 : Cond.code y bytes maxL rety ∈ lw_all) (hm : (b, .inr (ci, fs)) ∈ ws.flatten) (hc : vwCl[ci]? = some r) (hcl : y.cls = r.1) (hd : zHd y n) (hrm : rm.cells = 0 ∧ rm.slots = 0) (hR : rm.frames + 1 ≤ R.frames ∧ 8 + (maxL + 11) + rm.locals ≤ R.locals) (hwc : zPick ws is = wc) (hn : As.length = n) (hst : st0 = As.reverse ++ .ref b :: rest) (hro : (rest.map fun v => v.category).sum ≤ 8) (hf : cells ≤ R.cells ∧ slots ≤ R.slots) (d : decode cc pc = .ok (.invokevirtual index, 3)) (kk : ∀ u : S, post u → (zJ p l e R s m args below meth c Q nL (I) (cells) (slots) (pc + 3) (lv) ((val u).toList ++ rest))) : (zJ p l e R s m args below meth c Q nL (I) (cells) (slots) (pc) (lv) (st0)) :=
  z_obs (len := 0) o (fun H locs ls hI hl => va_runV g.fix hM (cwV n g.ts (lw_V q1 q2 q3 q4 q5) rfl hrm.1 hrm.2 ⟨hcl, hd⟩ hR) ⟨zPreO.blind, z_recv g.K (o H locs hI).1 hm hc, z_preo (y := y) g o hI is hwc⟩ rfl hn hl.1 hst (lv_room hro) d hf) kk
theorem z_mut {S : Type} {post : S → Prop} {val : S → Option Value} {w1 : S → List va_W} {mc ms : Nat} {st0 rest : List Value} {a : Array Value} (hA : zA s A B0) (isC isR : List Nat) (hwc : zPick ws isC = wc) (hwr : zPick ws isR = wr) (hperm : (isC ++ isR).isPerm (List.range ws.length) = true)
    (hr : ∀ (H : Heap) (locs : List Loc) (ls : Array Slot), zI D A s ws H locs → lv_has ls nL lv → va_Run p l e R s m args below meth c H locs cells slots mc ms (F0 m pc ls st0) rest (zQ post val w1 D (va_A wc.flatten H.size) a) (va_A wc.flatten H.size))
    (kk : ∀ u : S, post u → (zJ p l e R s m args below meth c Q nL (zI D A s (w1 u ++ wr)) (cells + mc) (slots + ms) (pc + 3) (lv) ((val u).toList ++ rest))) : (zJ p l e R s m args below meth c Q nL (zI D A s ws) (cells) (slots) (pc) (lv) (st0)) := by
  intro H locs ls hI hl T hT X
  obtain ⟨v, st₀, t, T', L, h0, X', hL, e1, e2, ⟨⟨u, hv, hp, hP1, hD1⟩, hz, hk⟩, stp⟩ := hr H locs ls hI hl T hT X
  cases hv
  rw [h0] at hz hk
  have hpm := zPick_perm2 isC isR hwc hwr hperm
  have hF : ∀ q, va_A wc.flatten H.size q → A q := by
    intro q h
    rcases h with ⟨k, e, h⟩ | h
    · exact (zD_iff.mp hI.2.1).2 (q, e) (hpm.mem_iff.mp (List.mem_append_left _ (List.mem_of_getElem? h)))
    · exact hA.1 q (Nat.le_trans hI.2.2.1 h)
  obtain ⟨hP2, hD2⟩ := zJoin hI.1 hI.2.1 hpm hk hF hP1 hD1
  have hS := hI.2.2
  obtain ⟨t2, a1, b1⟩ := kk u hp T'.heap (locs ++ L) ls ⟨by rw [List.flatten_append, e1]; exact hP2, by rw [List.flatten_append]; exact hD2, Nat.le_trans hS.1 (by rw [e1]; exact hz), fun q h1 h2 => by rw [e1, hk q (Nat.lt_of_lt_of_le h1 hS.1) (fun z => h2 (hF q z))]; exact hS.2.1 q h1 h2, fun q hq => by
      rcases List.mem_append.mp hq with h | h
      · exact hS.2.2 q h
      · exact hF _ (hL q h)⟩ hl T' rfl X'
  exact ⟨t2, stp t2 a1, b1⟩
theorem z_prem {H : Heap} {locs : List Loc} {av : List Value} (g : zG p s m args meth c cc nL own ret D B0) (hA : zA s A B0) (hI : zI D A s ws H locs) (isC isR : List Nat) (hwc : zPick ws isC = wc) (hwr : zPick ws isR = wr) (hperm : (isC ++ isR).isPerm (List.range ws.length) = true) : ∀ U : State, U.heap = H → s.WarmedH U.vm → va_Pc av (zPre B0 D (va_A wc.flatten H.size) wc) av.toArray U := by
  intro U hU hW
  obtain ⟨h1, h2, h3, -⟩ := zI_ok g hA H locs hI
  have hpm := zPick_perm2 isC isR hwc hwr hperm
  have hD := zD_iff.mp (zD_perm hI.2.1 hpm.symm)
  have hnd := hD.1
  rw [List.map_append, List.nodup_append] at hnd
  have hDc : va_D A wc.flatten := zD_iff.mpr ⟨hnd.1, fun q hq => hD.2 q (List.mem_append_left _ hq)⟩
  refine ⟨rfl, g.zk.moved hW (by rw [hU]; exact Nat.le_trans g.zk.1 h2) (fun q hq => by rw [hU]; exact h3 q hq), ?_, hDc.self, fun q hq => Or.inr (by rw [← hU]; exact hq), fun q hq => ?_⟩
  · rw [hU, ← hwc]
    exact zP_mem h1 (zPick_sub ws isC)
  · rcases hq with ⟨k, e, h⟩ | h
    · exact hA.2 _ ((zD_iff.mp hDc).2 (q, e) (List.mem_of_getElem? h))
    · exact Nat.le_trans (Nat.le_trans g.zk.1 h2) h
/-- a static method that changes its world -/
theorem z_cMS {S : Type} {post : S → Prop} {val : S → Option Value} {w1 : S → List va_W} {mc ms : Nat} {y : MethodName} {bytes : ByteArray} {maxL n index : Nat} {rety : Option FieldType} {rm : Room} (g : zG p s m args meth c cc nL own ret D B0) (hA : zA s A B0) (As rest : List Value) {st0 : List Value} (isC isR : List Nat) (hM : ∀ A1 : Nat → Prop, Met l y (ws_ y bytes maxL rety) rm (va_Pc As (zPre B0 D A1 wc)) (zQ post val w1 D A1) mc ms A1) (q1 : Cond.methodLink own index y ∈ lw_all) (q2 : Cond.static y ∈ lw_all) (q3 : Cond.initialized y.cls ∈ lw_all) (q4 : Cond.code y bytes maxL rety ∈ lw_all) (hd : zHd y n) (hrm : rm.cells = mc ∧ rm.slots = ms) (hR : rm.frames + 1 ≤ R.frames ∧ 8 + (maxL + 11) + rm.locals ≤ R.locals) (hwc : zPick ws isC = wc) (hwr : zPick ws isR = wr) (hperm : (isC ++ isR).isPerm (List.range ws.length) = true) (hn : As.length = n) (hst : st0 = As.reverse ++ rest) (hro : (rest.map fun v => v.category).sum ≤ 8) (hf : cells + mc ≤ R.cells ∧ slots + ms ≤ R.slots) (d : decode cc pc = .ok (.invokestatic index, 3)) (kk : ∀ u : S, post u → (zJ p l e R s m args below meth c Q nL (zI D A s (w1 u ++ wr)) (cells + mc) (slots + ms) (pc + 3) (lv) ((val u).toList ++ rest))) : (zJ p l e R s m args below meth c Q nL (zI D A s ws) (cells) (slots) (pc) (lv) (st0)) :=
  z_mut hA isC isR hwc hwr hperm (fun H locs ls hI hl => va_runS g.fix (hM _) (va_cwS n g.ts (lw_S q1 q2 q3 q4) rfl hrm.1 hrm.2 hd hR) ⟨zPre.blind, z_prem g hA hI isC isR hwc hwr hperm⟩ rfl hn hl.1 hst (lv_room hro) d hf) kk
/-- a method that changes its world, through an object -/
theorem z_cMV {S : Type} {post : S → Prop} {val : S → Option Value} {w1 : S → List va_W} {mc ms : Nat} {y : MethodName} {bytes : ByteArray} {maxL n index b ci : Nat} {fs : List Value} {r : vw_C} {rety : Option FieldType} {rm : Room} (g : zG p s m args meth c cc nL own ret D B0) (hA : zA s A B0) (As rest : List Value) {st0 : List Value} (isC isR : List Nat) (hM : ∀ A1 : Nat → Prop, Met l y (ws_ y bytes maxL rety) rm (va_Pc (.ref b :: As) (zPre B0 D A1 wc)) (zQ post val w1 D A1) mc ms A1) (q1 : Cond.methodLink own index y ∈ lw_all) (q2 : Cond.instanceMethod y ∈ lw_all) (q3 : Cond.selects r.1 y y ∈ lw_all) (q4 : Cond.initialized r.1 ∈ lw_all) (q5 : Cond.code y bytes maxL rety ∈ lw_all) (hm : (b, .inr (ci, fs)) ∈ ws.flatten) (hc : vwCl[ci]? = some r) (hcl : y.cls = r.1) (hd : zHd y n) (hrm : rm.cells = mc ∧ rm.slots = ms) (hR : rm.frames + 1 ≤ R.frames ∧ 8 + (maxL + 11) + rm.locals ≤ R.locals) (hwc : zPick ws isC = wc) (hwr : zPick ws isR = wr) (hperm : (isC ++ isR).isPerm (List.range ws.length) = true) (hn : As.length = n) (hst : st0 = As.reverse ++ .ref b :: rest) (hro : (rest.map fun v => v.category).sum ≤ 8) (hf : cells + mc ≤ R.cells ∧ slots + ms ≤ R.slots) (d : decode cc pc = .ok (.invokevirtual index, 3)) (kk : ∀ u : S, post u → (zJ p l e R s m args below meth c Q nL (zI D A s (w1 u ++ wr)) (cells + mc) (slots + ms) (pc + 3) (lv) ((val u).toList ++ rest))) : (zJ p l e R s m args below meth c Q nL (zI D A s ws) (cells) (slots) (pc) (lv) (st0)) :=
  z_mut hA isC isR hwc hwr hperm (fun H locs ls hI hl => va_runV g.fix (hM _) (cwV n g.ts (lw_V q1 q2 q3 q4 q5) rfl hrm.1 hrm.2 ⟨hcl, hd⟩ hR) ⟨zPre.blind, z_recv g.K hI.1 hm hc, z_prem g hA hI isC isR hwc hwr hperm⟩ rfl hn hl.1 hst (lv_room hro) d hf) kk
/-- a constructor -/
theorem z_cMI {S : Type} {post : S → Prop} {val : S → Option Value} {w1 : S → List va_W} {mc ms : Nat} {y : MethodName} {bytes : ByteArray} {maxL n index b : Nat} {rm : Room} (g : zG p s m args meth c cc nL own ret D B0) (hA : zA s A B0) (As rest : List Value) {st0 : List Value} (isC isR : List Nat) (hM : ∀ A1 : Nat → Prop, Met l y (ws_ y bytes maxL none) rm (va_Pc (.ref b :: As) (zPre B0 D A1 wc)) (zQ post val w1 D A1) mc ms A1) (q1 : Cond.methodLink own index y ∈ lw_all) (q2 : Cond.instanceMethod y ∈ lw_all) (q4 : Cond.initialized y.cls ∈ lw_all) (q5 : Cond.code y bytes maxL none ∈ lw_all) (hy1 : y.name = "<init>") (hd : zHd y n) (hrm : rm.cells = mc ∧ rm.slots = ms) (hR : rm.frames + 1 ≤ R.frames ∧ 8 + (maxL + 11) + rm.locals ≤ R.locals) (hwc : zPick ws isC = wc) (hwr : zPick ws isR = wr) (hperm : (isC ++ isR).isPerm (List.range ws.length) = true) (hn : As.length = n) (hst : st0 = As.reverse ++ .ref b :: rest) (hro : (rest.map fun v => v.category).sum ≤ 8) (hf : cells + mc ≤ R.cells ∧ slots + ms ≤ R.slots) (d : decode cc pc = .ok (.invokespecial index, 3)) (kk : ∀ u : S, post u → (zJ p l e R s m args below meth c Q nL (zI D A s (w1 u ++ wr)) (cells + mc) (slots + ms) (pc + 3) (lv) ((val u).toList ++ rest))) : (zJ p l e R s m args below meth c Q nL (zI D A s ws) (cells) (slots) (pc) (lv) (st0)) :=
  z_mut hA isC isR hwc hwr hperm (fun H locs ls hI hl => va_runI g.fix (hM _) (cwI n g.ts (lw_meth q5) rfl hrm.1 hrm.2 (g.ts _ q4) (g.ts _ q1) (g.ts _ q2) hy1 hd hR) ⟨zPre.blind, z_prem g hA hI isC isR hwc hwr hperm⟩ rfl hn hl.1 hst (lv_room hro) d hf) kk
/-- a static observer of a nest mate -/
theorem z_cOSN {S : Type} {post : S → Prop} {val : S → Option Value} {y : MethodName} {bytes : ByteArray} {maxL n index : Nat} {host : String} {rety : Option FieldType} {rm : Room} (g : zG p s m args meth c cc nL own ret D B0) (o : zOK B0 D s ws I) (As rest : List Value) {st0 : List Value} (is : List Nat) (hM : Met l y (ws_ y bytes maxL rety) rm (va_Pc As (zPreO B0 D wc)) (zQo post val) 0 0 (fun _ => False)) (q1 : Cond.methodLinkNest own index y host ∈ zNl) (q2 : Cond.static y ∈ lw_all) (q3 : Cond.initialized y.cls ∈ lw_all) (q4 : Cond.code y bytes maxL rety ∈ lw_all) (hd : zHd y n) (hrm : rm.cells = 0 ∧ rm.slots = 0) (hR : rm.frames + 1 ≤ R.frames ∧ 8 + (maxL + 11) + rm.locals ≤ R.locals) (hwc : zPick ws is = wc) (hn : As.length = n) (hst : st0 = As.reverse ++ rest) (hro : (rest.map fun v => v.category).sum ≤ 8) (hf : cells ≤ R.cells ∧ slots ≤ R.slots) (d : decode cc pc = .ok (.invokestatic index, 3)) (kk : ∀ u : S, post u → (zJ p l e R s m args below meth c Q nL (I) (cells) (slots) (pc + 3) (lv) ((val u).toList ++ rest))) : (zJ p l e R s m args below meth c Q nL (I) (cells) (slots) (pc) (lv) (st0)) :=
  z_obs (len := 0) o (fun H locs ls hI hl => va_runSN g.fix hM ⟨va_cnB n g.ts (lw_meth q4) rfl hrm.1 hrm.2 (g.zk.2.2.1 _ q1) (g.ts _ q3) hd hR, g.ts _ q2, trivial⟩ ⟨zPreO.blind, z_preo (y := y) g o hI is hwc⟩ rfl hn hl.1 hst (lv_room hro) d hf) kk
end ZL
