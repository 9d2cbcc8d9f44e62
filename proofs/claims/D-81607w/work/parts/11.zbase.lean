set_option maxRecDepth 100000
/-- a truth as an int -/
def bI (b : Bool) : Int32 := if b then 1 else 0
theorem bI_t : bI true = 1 := rfl
theorem bI_f : bI false = 0 := rfl
theorem bI_eq0 {b : Bool} (h : bI b = 0) : b = false := by cases b <;> first | rfl | (exact absurd h (by decide))
theorem bI_ne0 {b : Bool} (h : ¬ bI b = 0) : b = true := by cases b <;> first | rfl | (exact absurd rfl h)
theorem bI_eq1 {b : Bool} (h : bI b = 1) : b = true := by cases b <;> first | rfl | (exact absurd h (by decide))
theorem bI_d (c : Prop) (_ : c) : True := trivial
theorem bI_nar (b : Bool) : narrow .boolean (.int (bI b)) = .int (bI b) := by cases b <;> rfl
theorem bI_b (b : Bool) : (if bI b = 0 then (0 : Int32) else 1) = bI b := by cases b <;> rfl
theorem bI_inj {a b : Bool} (h : bI a = bI b) : a = b := by cases a <;> cases b <;> first | rfl | (exact absurd h (by decide))
theorem zn_le {a b : Nat} (ha : a < 2147483648) (hb : b < 2147483648) : nI a ≤ nI b ↔ a ≤ b := nI_leI (by omega) (by omega)
theorem zn_lt {a b : Nat} (ha : a < 2147483648) (hb : b < 2147483648) : nI a < nI b ↔ a < b := nI_ltI (by omega) (by omega)
theorem zn_nle {a b : Nat} (ha : a < 2147483648) (hb : b < 2147483648) : ¬ nI a ≤ nI b ↔ b < a := by rw [zn_le ha hb]; omega
theorem zn_nlt {a b : Nat} (ha : a < 2147483648) (hb : b < 2147483648) : ¬ nI a < nI b ↔ b ≤ a := by rw [zn_lt ha hb]; omega
theorem zn_eq {a b : Nat} (ha : a < 2147483648) (hb : b < 2147483648) : nI a = nI b ↔ a = b := nI_eq (by omega) (by omega)
theorem zsv {v r : Int32} (h : v = r) : some (Value.int r) = some (Value.int v) := by rw [h]
theorem zbv {v : Int32} {r : Bool} (h : v = bI r) : some (Value.int (bI r)) = some (Value.int (bI r)) ∧ v = bI r := ⟨rfl, h⟩
theorem q_oi2 : Cond.instanceMethod Lib.objectInit ∈ lw_all := q94
theorem q_oi3 : Cond.code Lib.objectInit ⟨#[0xb1]⟩ 1 none ∈ lw_all := q95
section ZB
variable {p : Program} {l : Launch} {e : Env} {R : Room} {s : State} {m : MethodId} {args : Array Value} {below : List Frame} {meth : Method} {c : Code} {Q : State → Prop} {nL : Nat} {D : va_G} {A : Nat → Prop} {cells slots : Nat} {cc : ByteArray} {own : String} {ret : Option FieldType} {B0 : Nat} {pc : Nat} {lv lv' : List (Nat × Value)} {st : List Value} {ws ws' wc wr : List va_W} {I : Heap → List Loc → Prop}
theorem z_norm (ws' : List va_W) (cells' slots' : Nat) (k : (zJ p l e R s m args below meth c Q nL (zI D A s ws') (cells') (slots') (pc) (lv) (st))) (h1 : ws = ws') (h2 : cells = cells') (h3 : slots = slots') : (zJ p l e R s m args below meth c Q nL (zI D A s ws) (cells) (slots) (pc) (lv) (st)) := by subst h1; subst h2; subst h3; exact k
theorem z_ixtop {x : Int32} {v : Value} (y : Int32) (h : x = y) (k : (zJ p l e R s m args below meth c Q nL (I) (cells) (slots) (pc) (lv) (v :: .int y :: st))) : (zJ p l e R s m args below meth c Q nL (I) (cells) (slots) (pc) (lv) (v :: .int x :: st)) := by subst h; exact k
theorem arrV_ext {cA : ClassId} {n : Nat} {f g : Nat → Value} (h : ∀ i, i < n → f i = g i) : arrV cA n f = arrV cA n g := by
  unfold arrV
  congr 2
  funext j
  exact h j.val j.isLt
theorem z_ext (q0 : Nat) {a n : Nat} {cA : ClassId} {f : Nat → Int32} (gn : Nat → Int32) (he : ws.flatten[q0]? = some (a, .inl (cA, n, .inl f))) (h : ∀ i, i < n → f i = gn i) (ws' : List va_W) (hws : ws.flatten.set q0 (a, .inl (cA, n, .inl gn)) = ws'.flatten) (k : (zJ p l e R s m args below meth c Q nL (zI D A s ws') (cells) (slots) (pc) (lv) (st))) : (zJ p l e R s m args below meth c Q nL (zI D A s ws) (cells) (slots) (pc) (lv) (st)) := by
  intro H locs ls hI hl
  have e : va_at D vwCl (a, .inl (cA, n, .inl gn)) H := by
    have h0 : H[a]? = some (vp_cell cA (n, .inl f)) := hI.1 q0 _ he
    show H[a]? = some (vp_cell cA (n, .inl gn))
    rw [h0, vp_cell_i, vp_cell_i]
    exact congrArg some (arrV_ext fun i hi => by rw [h i hi])
  exact k H locs ls ⟨by rw [← hws]; exact hI.1.set hI.2.1 he e (fun _ _ => rfl), by rw [← hws]; exact hI.2.1.set he, hI.2.2⟩ hl
theorem z_rio {r v : Int32} (g : zG p s m args meth c cc nL own (some .int) D B0) (hQ : Q = MQ below (zQo (S := Unit) (fun _ => True) (fun _ => some (.int r))) args s 0 0 (fun _ => False)) (hv : v = r) (d : decode cc pc = .ok (.ireturn, 1)) : (zJ p l e R s m args below meth c Q nL (zIo D s ws) (0) (0) (pc) (lv) ([.int v])) := by subst hv; exact z_ireto g hQ (vp_nar_int _) () trivial rfl d
theorem z_rzo {r : Bool} {v : Int32} (g : zG p s m args meth c cc nL own (some .boolean) D B0) (hQ : Q = MQ below (zQo (S := Unit) (fun _ => True) (fun _ => some (.int (bI r)))) args s 0 0 (fun _ => False)) (hv : v = bI r) (d : decode cc pc = .ok (.ireturn, 1)) : (zJ p l e R s m args below meth c Q nL (zIo D s ws) (0) (0) (pc) (lv) ([.int v])) := by subst hv; exact z_ireto g hQ (bI_nar _) () trivial rfl d
theorem z_rim {S : Type} {post : S → Prop} {val : S → Option Value} {w1 : S → List va_W} {mc ms : Nat} {v : Int32} (g : zG p s m args meth c cc nL own (some .int) D B0) (hQ : Q = MQ below (zQ post val w1 D A) args s mc ms A) (u : S) (hu : post u) (hv : val u = some (.int v)) (hw : w1 u = ws) (hc : cells ≤ mc) (hs : slots ≤ ms) (d : decode cc pc = .ok (.ireturn, 1)) : (zJ p l e R s m args below meth c Q nL (zI D A s ws) (cells) (slots) (pc) (lv) ([.int v])) := z_iret g hQ (vp_nar_int _) u hu hv hw hc hs d
theorem z_rzm {S : Type} {post : S → Prop} {val : S → Option Value} {w1 : S → List va_W} {mc ms : Nat} {r : Bool} {v : Int32} (g : zG p s m args meth c cc nL own (some .boolean) D B0) (hQ : Q = MQ below (zQ post val w1 D A) args s mc ms A) (u : S) (hu : post u) (hv : val u = some (.int (bI r)) ∧ v = bI r) (hw : w1 u = ws) (hc : cells ≤ mc) (hs : slots ≤ ms) (d : decode cc pc = .ok (.ireturn, 1)) : (zJ p l e R s m args below meth c Q nL (zI D A s ws) (cells) (slots) (pc) (lv) ([.int v])) := by
  obtain ⟨hv, rfl⟩ := hv
  exact z_iret g hQ (bI_nar _) u hu hv hw hc hs d
end ZB
