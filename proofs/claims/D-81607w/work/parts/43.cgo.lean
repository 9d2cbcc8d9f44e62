set_option maxRecDepth 100000
/-! THE STAIR of the component: riders go, the stair goes on -/
section GO
variable {st sp tk : Int32} {n : Nat} {ln wh kd : Nat → Int32} {r : Nat}
theorem go_id {c : Nat → Int32} {b : Int32} (h : mMay n c r b = false) : mGo n c r b = c := by
  funext j
  simp only [mGo, h, upd]
  split
  · rename_i e; rw [e]; simp
  · rfl
theorem mv_1 (hk : kd r = 1) : mMv n (pkC st sp tk n ln wh kd) r = pkC st sp tk n ln wh kd := by
  simp only [mMv, pkC_kd, hk]; rw [if_neg (by decide), if_neg (by decide), if_neg (fun z => absurd z.1 (by decide))]
theorem mv_4 (hk : kd r = 4) : mMv n (pkC st sp tk n ln wh kd) r = pkC st sp tk n ln wh kd := by
  simp only [mMv, pkC_kd, hk]; rw [if_neg (by decide), if_neg (by decide), if_neg (fun z => absurd z.1 (by decide))]
theorem mv_2 (hk : kd r = 2) : mMv n (pkC st sp tk n ln wh kd) r = mGo n (pkC st sp tk n ln wh kd) r 1 := by
  simp only [mMv, pkC_kd, hk]; rw [if_pos trivial]
theorem mv_3 (hk : kd r = 3) : mMv n (pkC st sp tk n ln wh kd) r = mGo n (mGo n (pkC st sp tk n ln wh kd) r 1) r 1 := by
  simp only [mMv, pkC_kd, hk]
  rw [if_neg (by decide), if_pos trivial]
  by_cases h : mMay n (pkC st sp tk n ln wh kd) r 1 = true
  · rw [if_pos h]
  · rw [if_neg h]
    have h0 : mMay n (pkC st sp tk n ln wh kd) r 1 = false := by simpa using h
    rw [go_id h0, go_id h0]
theorem mv_5 (hk : kd r = 5) : mMv n (pkC st sp tk n ln wh kd) r = if tk - tk / 2 * 2 = 1 then mGo n (pkC st sp tk n ln wh kd) r (-1) else pkC st sp tk n ln wh kd := by
  simp only [mMv, pkC_kd, hk, pkC_0]
  rw [if_neg (by decide), if_neg (by decide)]
  by_cases h : tk - tk / 2 * 2 = 1
  · rw [if_pos ⟨trivial, h⟩, if_pos h]
  · rw [if_neg (fun z => h z.2), if_neg h]
theorem goW1 (hk : kd r = 1) : ∀ q, q < 7 → wh q = mMv n (pkC st sp tk n ln wh kd) r (2 + q) := fun q hq => by rw [mv_1 hk, pkC_wh hq]
theorem goW4 (hk : kd r = 4) : ∀ q, q < 7 → wh q = mMv n (pkC st sp tk n ln wh kd) r (2 + q) := fun q hq => by rw [mv_4 hk, pkC_wh hq]
theorem goW2 (hr : r < 7) (hk : kd r = 2) : ∀ q, q < 7 → climbW n (pkC st sp tk n ln wh kd) wh r 1 q = mMv n (pkC st sp tk n ln wh kd) r (2 + q) := fun q hq => by rw [mv_2 hk, ← pkC_climb hr, pkC_wh hq]
theorem goW3 (hr : r < 7) (hk : kd r = 3) : ∀ q, q < 7 → climbW n (pkC st sp tk n ln (climbW n (pkC st sp tk n ln wh kd) wh r 1) kd) (climbW n (pkC st sp tk n ln wh kd) wh r 1) r 1 q = mMv n (pkC st sp tk n ln wh kd) r (2 + q) := fun q hq => by rw [mv_3 hk, ← pkC_climb hr, ← pkC_climb hr, pkC_wh hq]
theorem goW5 (hr : r < 7) (hk : kd r = 5) (h : tk - tk / 2 * 2 = 1) : ∀ q, q < 7 → climbW n (pkC st sp tk n ln wh kd) wh r (-1) q = mMv n (pkC st sp tk n ln wh kd) r (2 + q) := fun q hq => by rw [mv_5 hk, if_pos h, ← pkC_climb hr, pkC_wh hq]
theorem goW5n (hk : kd r = 5) (h : ¬ tk - tk / 2 * 2 = 1) : ∀ q, q < 7 → wh q = mMv n (pkC st sp tk n ln wh kd) r (2 + q) := fun q hq => by rw [mv_5 hk, if_neg h, pkC_wh hq]
theorem ordF_ext {w w' l l' : Nat → Int32} {p sd : Int32} : ∀ (m r : Nat), (∀ q, q < r + m → w q = w' q ∧ l q = l' q) → ordF w l p sd m r = ordF w' l' p sd m r
  | 0, r, h => rfl
  | m + 1, r, h => by
    simp only [ordF]
    rw [(h r (by omega)).1, (h r (by omega)).2, ordF_ext m (r + 1) (fun q hq => h q (by omega))]
theorem ordS_ext {w w' l l' : Nat → Int32} {n : Nat} (h : ∀ q, q < n → w q = w' q ∧ l q = l' q) : ∀ k, ordS w l n k = ordS w' l' n k
  | 0 => rfl
  | k + 1 => by
    simp only [ordS, lnF]
    rw [ordF_ext n 0 (fun q hq => h q (by omega)), ordF_ext n 0 (fun q hq => h q (by omega)), ordS_ext h k]
theorem ordC_pk (h7 : n ≤ 7) (k : Nat) : ordC n (pkC st sp tk n ln wh kd) k = ordS wh ln n k := ordS_ext (fun q hq => ⟨pkC_wh (by omega), pkC_ln (by omega)⟩) k
end GO
theorem ordF_mem {w l : Nat → Int32} {p sd : Int32} : ∀ (m r : Nat), ∀ q ∈ ordF w l p sd m r, r ≤ q ∧ w q = p ∧ l q = sd
  | 0, r, q, h => by cases h
  | m + 1, r, q, h => by
    simp only [ordF] at h
    split at h
    · rename_i e
      rcases List.mem_cons.mp h with h | h
      · subst h; exact ⟨Nat.le_refl _, e.1, e.2⟩
      · have := ordF_mem m (r + 1) q h; exact ⟨by omega, this.2⟩
    · have := ordF_mem m (r + 1) q h; exact ⟨by omega, this.2⟩
theorem ordF_nd {w l : Nat → Int32} {p sd : Int32} : ∀ (m r : Nat), (ordF w l p sd m r).Nodup
  | 0, r => List.nodup_nil
  | m + 1, r => by
    simp only [ordF]
    split
    · rw [List.nodup_cons]
      exact ⟨fun h => by have := (ordF_mem m (r + 1) r h).1; omega, ordF_nd m (r + 1)⟩
    · exact ordF_nd m (r + 1)
theorem ordS_mem {w l : Nat → Int32} {n : Nat} : ∀ (k : Nat), ∀ q ∈ ordS w l n k, ∃ j, j < k ∧ w q = nI j
  | 0, q, h => by cases h
  | k + 1, q, h => by
    simp only [ordS, lnF, List.mem_append] at h
    rcases h with (h | h) | h
    · exact ⟨k, by omega, (ordF_mem n 0 q h).2.1⟩
    · exact ⟨k, by omega, (ordF_mem n 0 q h).2.1⟩
    · obtain ⟨j, h1, h2⟩ := ordS_mem k q h
      exact ⟨j, by omega, h2⟩
theorem ordS_nd {w l : Nat → Int32} {n : Nat} : ∀ (k : Nat), k ≤ 1000 → (ordS w l n k).Nodup
  | 0, _ => List.nodup_nil
  | k + 1, hk => by
    simp only [ordS, lnF]
    rw [List.nodup_append, List.nodup_append]
    refine ⟨⟨ordF_nd _ _, ordF_nd _ _, fun a ha b hb e => ?_⟩, ordS_nd k (by omega), fun a ha b hb e => ?_⟩
    · subst e
      have h1 := (ordF_mem n 0 a ha).2.2
      have h2 := (ordF_mem n 0 a hb).2.2
      exact absurd (h1.symm.trans h2) (by decide)
    · subst e
      have h1 : w a = nI k := by
        rcases List.mem_append.mp ha with h | h
        · exact (ordF_mem n 0 a h).2.1
        · exact (ordF_mem n 0 a h).2.1
      obtain ⟨j, h2, h3⟩ := ordS_mem k a hb
      have h4 := (zn_eq (a := k) (b := j) (by omega) (by omega)).mp (h1.symm.trans h3)
      omega
theorem nd_len : ∀ (n : Nat) (L : List Nat), L.Nodup → (∀ q ∈ L, q < n) → L.length ≤ n
  | 0, L, _, h => by
    cases L with
    | nil => exact Nat.le_refl _
    | cons a L => exact absurd (h a List.mem_cons_self) (Nat.not_lt_zero a)
  | n + 1, L, hd, h => by
    by_cases hm : n ∈ L
    · have h1 := nd_len n (L.erase n) (hd.erase n) (fun q hq => by
        have h2 := (hd.mem_erase_iff).mp hq
        have h3 := h q h2.2
        have h4 := h2.1
        omega)
      rw [List.length_erase_of_mem hm] at h1
      omega
    · have h1 := nd_len n L hd (fun q hq => by
        have h3 := h q hq
        rcases Nat.lt_or_ge q n with h4 | h4
        · exact h4
        · have h5 : q = n := by omega
          rw [h5] at hq
          exact absurd hq hm)
      omega
theorem ordS_len {w l : Nat → Int32} {n k : Nat} (hk : k ≤ 1000) : (ordS w l n k).length ≤ n := nd_len n _ (ordS_nd k hk) (ordS_lt k)
theorem dropN {l t : List Nat} {k b : Nat} (h : l.drop k = b :: t) : k < l.length ∧ l.getD k 0 = b ∧ l.drop (k + 1) = t := by
  have h1 : k < l.length := by
    rcases Nat.lt_or_ge k l.length with h1 | h1
    · exact h1
    · rw [List.drop_eq_nil_of_le h1] at h; cases h
  rw [List.drop_eq_getElem_cons h1] at h
  injection h with h2 h3
  exact ⟨h1, by rw [List.getD_eq_getElem?_getD, List.getElem?_eq_getElem h1]; exact h2, h3⟩
theorem od_s {od : Nat → Int32} {l : List Nat} {m b : Nat} (h : ∀ i, i < m → od i = nI (l.getD i 0)) (hb : l.getD m 0 = b) : ∀ i, i < m + 1 → upd od m (nI b) i = nI (l.getD i 0) := by
  intro i hi
  by_cases e : i = m
  · rw [e, pk_us, hb]
  · rw [pk_un e]; exact h i (by omega)

set_option maxHeartbeats 4000000 in
theorem met_X7_number_1 (l : Launch) (D : va_G) (B0 : Nat) (v : Nat) (r : Nat) (T : va_W) (hv : (v, (Sum.inr (7, [Value.int (nI r)]) : va_E)) ∈ T) : Met l yX7_number (ws_ yX7_number cX7_number 1 (some .int)) (zRm 1 0 0) (va_Pc [.ref v] (zPreO B0 D [T])) (zQo (S := Unit) (fun _ => True) (fun _ => some (.int (nI r)))) 0 0 (fun _ => False) := by
  refine z_entryo (by decide +kernel) (Nat.le_of_ble_eq_true rfl) (fun pX eX sX mX argsX blX mtX cX QX hQX gX => ?_)
  refine z_eq (lv₂ := [(0, .ref v)]) (st₂ := []) ?_ rfl rfl
  refine z_aload_n (pc := 0) gX 0 dX7_number_0 rfl rfl ?_
  refine z_get (pc := 1) gX (zIo_ok gX) (zpm 0 rfl hv) (ci := 7) (C := RX8) (T := TX8) (N := 1) rfl in_X8 0 (by decide) q678 (fun _ h => h) (v := .int (nI r)) rfl dX7_number_1 ?_
  exact z_rio gX hQX rfl dX7_number_4
theorem hd_X7_number : zHd yX7_number 0 := by unfold zHd; decide +kernel

set_option maxHeartbeats 4000000 in
theorem met_X7_number_2 (l : Launch) (D : va_G) (B0 : Nat) (v : Nat) (r : Nat) (T : va_W) (hv : (v, (Sum.inr (8, [Value.int (nI r)]) : va_E)) ∈ T) : Met l yX7_number (ws_ yX7_number cX7_number 1 (some .int)) (zRm 1 0 0) (va_Pc [.ref v] (zPreO B0 D [T])) (zQo (S := Unit) (fun _ => True) (fun _ => some (.int (nI r)))) 0 0 (fun _ => False) := by
  refine z_entryo (by decide +kernel) (Nat.le_of_ble_eq_true rfl) (fun pX eX sX mX argsX blX mtX cX QX hQX gX => ?_)
  refine z_eq (lv₂ := [(0, .ref v)]) (st₂ := []) ?_ rfl rfl
  refine z_aload_n (pc := 0) gX 0 dX7_number_0 rfl rfl ?_
  refine z_get (pc := 1) gX (zIo_ok gX) (zpm 0 rfl hv) (ci := 8) (C := RX9) (T := TX9) (N := 1) rfl in_X9 0 (by decide) q678 (fun _ h => h) (v := .int (nI r)) rfl dX7_number_1 ?_
  exact z_rio gX hQX rfl dX7_number_4

set_option maxHeartbeats 4000000 in
theorem met_X7_number_3 (l : Launch) (D : va_G) (B0 : Nat) (v : Nat) (r : Nat) (T : va_W) (hv : (v, (Sum.inr (9, [Value.int (nI r)]) : va_E)) ∈ T) : Met l yX7_number (ws_ yX7_number cX7_number 1 (some .int)) (zRm 1 0 0) (va_Pc [.ref v] (zPreO B0 D [T])) (zQo (S := Unit) (fun _ => True) (fun _ => some (.int (nI r)))) 0 0 (fun _ => False) := by
  refine z_entryo (by decide +kernel) (Nat.le_of_ble_eq_true rfl) (fun pX eX sX mX argsX blX mtX cX QX hQX gX => ?_)
  refine z_eq (lv₂ := [(0, .ref v)]) (st₂ := []) ?_ rfl rfl
  refine z_aload_n (pc := 0) gX 0 dX7_number_0 rfl rfl ?_
  refine z_get (pc := 1) gX (zIo_ok gX) (zpm 0 rfl hv) (ci := 9) (C := RX10) (T := TX10) (N := 1) rfl in_X10 0 (by decide) q678 (fun _ h => h) (v := .int (nI r)) rfl dX7_number_1 ?_
  exact z_rio gX hQX rfl dX7_number_4

set_option maxHeartbeats 4000000 in
theorem met_X7_number_4 (l : Launch) (D : va_G) (B0 : Nat) (v : Nat) (r : Nat) (T : va_W) (hv : (v, (Sum.inr (10, [Value.int (nI r)]) : va_E)) ∈ T) : Met l yX7_number (ws_ yX7_number cX7_number 1 (some .int)) (zRm 1 0 0) (va_Pc [.ref v] (zPreO B0 D [T])) (zQo (S := Unit) (fun _ => True) (fun _ => some (.int (nI r)))) 0 0 (fun _ => False) := by
  refine z_entryo (by decide +kernel) (Nat.le_of_ble_eq_true rfl) (fun pX eX sX mX argsX blX mtX cX QX hQX gX => ?_)
  refine z_eq (lv₂ := [(0, .ref v)]) (st₂ := []) ?_ rfl rfl
  refine z_aload_n (pc := 0) gX 0 dX7_number_0 rfl rfl ?_
  refine z_get (pc := 1) gX (zIo_ok gX) (zpm 0 rfl hv) (ci := 10) (C := RX11) (T := TX11) (N := 1) rfl in_X11 0 (by decide) q678 (fun _ h => h) (v := .int (nI r)) rfl dX7_number_1 ?_
  exact z_rio gX hQX rfl dX7_number_4

set_option maxHeartbeats 4000000 in
theorem met_X7_number_5 (l : Launch) (D : va_G) (B0 : Nat) (v : Nat) (r : Nat) (T : va_W) (hv : (v, (Sum.inr (11, [Value.int (nI r)]) : va_E)) ∈ T) : Met l yX7_number (ws_ yX7_number cX7_number 1 (some .int)) (zRm 1 0 0) (va_Pc [.ref v] (zPreO B0 D [T])) (zQo (S := Unit) (fun _ => True) (fun _ => some (.int (nI r)))) 0 0 (fun _ => False) := by
  refine z_entryo (by decide +kernel) (Nat.le_of_ble_eq_true rfl) (fun pX eX sX mX argsX blX mtX cX QX hQX gX => ?_)
  refine z_eq (lv₂ := [(0, .ref v)]) (st₂ := []) ?_ rfl rfl
  refine z_aload_n (pc := 0) gX 0 dX7_number_0 rfl rfl ?_
  refine z_get (pc := 1) gX (zIo_ok gX) (zpm 0 rfl hv) (ci := 11) (C := RX12) (T := TX12) (N := 1) rfl in_X12 0 (by decide) q678 (fun _ h => h) (v := .int (nI r)) rfl dX7_number_1 ?_
  exact z_rio gX hQX rfl dX7_number_4

set_option maxHeartbeats 4000000 in
theorem met_X8_steps (l : Launch) (D : va_G) (B0 : Nat) (v : Nat)  : Met l yX8_steps (ws_ yX8_steps cX8_steps 1 (some .int)) (zRm 1 0 0) (va_Pc [.ref v] (zPreO B0 D [])) (zQo (S := Unit) (fun _ => True) (fun _ => some (.int 0))) 0 0 (fun _ => False) := by
  refine z_entryo (by decide +kernel) (Nat.le_of_ble_eq_true rfl) (fun pX eX sX mX argsX blX mtX cX QX hQX gX => ?_)
  refine z_eq (lv₂ := [(0, .ref v)]) (st₂ := []) ?_ rfl rfl
  refine z_iconst (pc := 0) gX 0 dX8_steps_0 (by decide) ?_
  exact z_rio gX hQX rfl dX8_steps_1
theorem hd_X8_steps : zHd yX8_steps 0 := by unfold zHd; decide +kernel

set_option maxHeartbeats 4000000 in
theorem met_X9_steps (l : Launch) (D : va_G) (B0 : Nat) (v : Nat) (r : Nat) (T : va_W) (hv : (v, (Sum.inr (8, [Value.int (nI r)]) : va_E)) ∈ T) : Met l yX9_steps (ws_ yX9_steps cX9_steps 1 (some .int)) (zRm 2 0 0) (va_Pc [.ref v] (zPreO B0 D [T])) (zQo (S := Unit) (fun _ => True) (fun _ => some (.int 1))) 0 0 (fun _ => False) := by
  refine z_entryo (by decide +kernel) (Nat.le_of_ble_eq_true rfl) (fun pX eX sX mX argsX blX mtX cX QX hQX gX => ?_)
  refine z_eq (lv₂ := [(0, .ref v)]) (st₂ := []) ?_ rfl rfl
  refine z_aload_n (pc := 0) gX 0 dX9_steps_0 rfl rfl ?_
  refine z_cOSU (pc := 1) gX (zIo_ok gX) [] [] [] (met_X8_steps l D B0 v ) q906 q898 q689 q896 q73 (by decide +kernel) hd_X8_steps q907 (zpm 0 rfl hv) (ci := 8) rfl ⟨rfl, rfl⟩ ⟨(Nat.le_of_ble_eq_true rfl), (Nat.le_of_ble_eq_true rfl)⟩ rfl rfl rfl (Nat.le_of_ble_eq_true rfl) ⟨(Nat.le_of_ble_eq_true rfl), (Nat.le_of_ble_eq_true rfl)⟩ dX9_steps_1 ?_
  intro _ hu1
  refine z_eq (lv₂ := [(0, .ref v)]) (st₂ := [.int 0]) ?_ rfl rfl
  refine z_iconst (pc := 4) gX 1 dX9_steps_4 (by decide) ?_
  refine z_iadd (pc := 5) gX dX9_steps_5 ?_
  exact z_rio gX hQX (by decide) dX9_steps_6
theorem hd_X9_steps : zHd yX9_steps 0 := by unfold zHd; decide +kernel

set_option maxHeartbeats 4000000 in
theorem met_X10_steps (l : Launch) (D : va_G) (B0 : Nat) (v : Nat) (r : Nat) (T : va_W) (hv : (v, (Sum.inr (9, [Value.int (nI r)]) : va_E)) ∈ T) : Met l yX10_steps (ws_ yX10_steps cX10_steps 1 (some .int)) (zRm 2 0 0) (va_Pc [.ref v] (zPreO B0 D [T])) (zQo (S := Unit) (fun _ => True) (fun _ => some (.int 2))) 0 0 (fun _ => False) := by
  refine z_entryo (by decide +kernel) (Nat.le_of_ble_eq_true rfl) (fun pX eX sX mX argsX blX mtX cX QX hQX gX => ?_)
  refine z_eq (lv₂ := [(0, .ref v)]) (st₂ := []) ?_ rfl rfl
  refine z_aload_n (pc := 0) gX 0 dX10_steps_0 rfl rfl ?_
  refine z_cOSU (pc := 1) gX (zIo_ok gX) [] [] [] (met_X8_steps l D B0 v ) q902 q898 q697 q896 q73 (by decide +kernel) hd_X8_steps q907 (zpm 0 rfl hv) (ci := 9) rfl ⟨rfl, rfl⟩ ⟨(Nat.le_of_ble_eq_true rfl), (Nat.le_of_ble_eq_true rfl)⟩ rfl rfl rfl (Nat.le_of_ble_eq_true rfl) ⟨(Nat.le_of_ble_eq_true rfl), (Nat.le_of_ble_eq_true rfl)⟩ dX10_steps_1 ?_
  intro _ hu1
  refine z_eq (lv₂ := [(0, .ref v)]) (st₂ := [.int 0]) ?_ rfl rfl
  refine z_iconst (pc := 4) gX 2 dX10_steps_4 (by decide) ?_
  refine z_iadd (pc := 5) gX dX10_steps_5 ?_
  exact z_rio gX hQX (by decide) dX10_steps_6
theorem hd_X10_steps : zHd yX10_steps 0 := by unfold zHd; decide +kernel

set_option maxHeartbeats 4000000 in
theorem met_X8_goes (l : Launch) (D : va_G) (B0 : Nat) (A : Nat → Prop) (sa : Nat → Nat) (st : Int32) (sp : Int32) (tk : Int32) (wn : Int32) (md : Int32) (d : Nat) (n : Nat) (ln : Nat → Int32) (wh : Nat → Int32) (od : Nat → Int32) (ra : Nat → Nat) (kd : Nat → Int32) (T : va_W) (v : Nat) (r : Nat) (k : Nat) (hn7 : n ≤ 7) (hR : rOK T n ra kd) (hl : ∀ q, q < n → ln q = 0 ∨ ln q = 1) (hr : r < n) (hk1 : 1 ≤ k) (hk3 : k ≤ 3) (hkd : kd r = nI k) (hv : (v, (Sum.inr (6 + k, [Value.int (nI r)]) : va_E)) ∈ T) : Met l yX8_goes (ws_ yX8_goes cX8_goes 3 none) (zRm 8 0 0) (va_Pc [.ref v, .ref (sa 0)] (zPre B0 D A [[(sa 0, .inr (2, [.int st, .int sp, .int tk, .int wn, .ref (sa 1), .ref (sa 2), .ref (sa 3), .ref (sa 4)]))], [(sa 1, .inr (16, [.int md, .ref d, .int (nI n)]))], [(sa 2, .inl (D.1 100, 7, .inl ln))], [(sa 3, .inl (D.1 100, 7, .inl wh))], [(sa 4, .inl (D.1 100, 7, .inl od))], [(d, .inl (D.1 104, 10, .inr (.inr (.inr (.inr (rF ra n))))))], T])) (zQ (S := Unit) (fun _ => True) (fun _ => none) (fun _ => [[(sa 0, .inr (2, [.int st, .int sp, .int tk, .int wn, .ref (sa 1), .ref (sa 2), .ref (sa 3), .ref (sa 4)]))], [(sa 1, .inr (16, [.int md, .ref d, .int (nI n)]))], [(sa 2, .inl (D.1 100, 7, .inl ln))], [(sa 3, .inl (D.1 100, 7, .inl (fun q => mMv n (pkC st sp tk n ln wh kd) r (2 + q))))], [(sa 4, .inl (D.1 100, 7, .inl od))], [(d, .inl (D.1 104, 10, .inr (.inr (.inr (.inr (rF ra n))))))], T]) D A) 0 0 A := by
  refine z_entry (by decide +kernel) (Nat.le_of_ble_eq_true rfl) (fun pX eX sX mX argsX blX mtX cX QX hQX gX hAX hnm => ?_)
  refine z_eq (lv₂ := [(0, .ref v), (1, .ref (sa 0))]) (st₂ := []) ?_ rfl rfl
  rcases (show k = 1 ∨ k = 2 ∨ k = 3 by omega) with rfl | rfl | rfl
  · skip
    refine z_aload_n (pc := 0) gX 0 dX8_goes_0 rfl rfl ?_
    refine z_cOV (pc := 1) gX (zI_ok gX hAX) [] [] [] (met_X8_steps l D B0 v ) q895 q896 q897 q73 q907 (zpm 6 rfl hv) (ci := 7) rfl rfl hd_X8_steps ⟨rfl, rfl⟩ ⟨(Nat.le_of_ble_eq_true rfl), (Nat.le_of_ble_eq_true rfl)⟩ rfl rfl rfl (Nat.le_of_ble_eq_true rfl) ⟨(Nat.le_of_ble_eq_true rfl), (Nat.le_of_ble_eq_true rfl)⟩ dX8_goes_1 ?_
    intro _ hu1
    refine z_eq (lv₂ := [(0, .ref v), (1, .ref (sa 0))]) (st₂ := [.int 0]) ?_ rfl rfl
    refine z_top 0 rfl ?_
    refine z_istore_n (pc := 4) gX [1, 2, 0] [(0, .ref v), (1, .ref (sa 0)), (2, .int 0)] dX8_goes_4 rfl (by decide) rfl ?_
    refine z_iload_n (pc := 5) gX 2 dX8_goes_5 rfl rfl ?_
    refine z_if_le (pc := 6) gX 24 dX8_goes_6 (by decide) (fun c6 => ?_) (fun c6 => ?_)
    · skip
      refine z_ext 3 (fun q => mMv n (pkC st sp tk n ln wh kd) r (2 + q)) rfl (goW1 hkd) [[(sa 0, .inr (2, [.int st, .int sp, .int tk, .int wn, .ref (sa 1), .ref (sa 2), .ref (sa 3), .ref (sa 4)]))], [(sa 1, .inr (16, [.int md, .ref d, .int (nI n)]))], [(sa 2, .inl (D.1 100, 7, .inl ln))], [(sa 3, .inl (D.1 100, 7, .inl (fun q => mMv n (pkC st sp tk n ln wh kd) r (2 + q))))], [(sa 4, .inl (D.1 100, 7, .inl od))], [(d, .inl (D.1 104, 10, .inr (.inr (.inr (.inr (rF ra n))))))], T] rfl ?_
      exact z_vret gX hQX () trivial rfl rfl (by first | decide | omega) (by first | decide | omega) dX8_goes_24
    · skip
      exact absurd c6 (by decide)
  · skip
    refine z_aload_n (pc := 0) gX 0 dX8_goes_0 rfl rfl ?_
    refine z_cOU (n := 0) (pc := 1) gX (zI_ok gX hAX) [] [] [6] (met_X9_steps l D B0 v r T (by first | assumption | omega)) (gX.ts _ q895) (gX.ts _ q898) (va_Decl.of (gX.ts _ q896) (gX.ts _ q907)) q904 q903 q74 ⟨by decide +kernel, by decide +kernel, by decide +kernel⟩ q905 (zpm 6 rfl hv) (ci := 8) rfl ⟨rfl, rfl⟩ ⟨(Nat.le_of_ble_eq_true rfl), (Nat.le_of_ble_eq_true rfl)⟩ rfl rfl rfl (Nat.le_of_ble_eq_true rfl) ⟨(Nat.le_of_ble_eq_true rfl), (Nat.le_of_ble_eq_true rfl)⟩ dX8_goes_1 ?_
    intro _ hu1
    refine z_eq (lv₂ := [(0, .ref v), (1, .ref (sa 0))]) (st₂ := [.int 1]) ?_ rfl rfl
    refine z_top 1 rfl ?_
    refine z_istore_n (pc := 4) gX [1, 2, 0] [(0, .ref v), (1, .ref (sa 0)), (2, .int 1)] dX8_goes_4 rfl (by decide) rfl ?_
    refine z_iload_n (pc := 5) gX 2 dX8_goes_5 rfl rfl ?_
    refine z_if_le (pc := 6) gX 24 dX8_goes_6 (by decide) (fun c6 => ?_) (fun c6 => ?_)
    · skip
      exact absurd c6 (by decide)
    · skip
      refine z_aload_n (pc := 9) gX 1 dX8_goes_9 rfl rfl ?_
      refine z_aload_n (pc := 10) gX 0 dX8_goes_10 rfl rfl ?_
      refine z_cOU (n := 0) (pc := 11) gX (zI_ok gX hAX) [] [.ref (sa 0)] [6] (met_X7_number_2 l D B0 v r T (by first | assumption | omega)) (gX.ts _ q908) (gX.ts _ q909) (va_Decl.abs (gX.zk.decl q859)) q861 q912 q72 ⟨by decide +kernel, by decide +kernel, by decide +kernel⟩ q862 (zpm 6 rfl hv) (ci := 8) rfl ⟨rfl, rfl⟩ ⟨(Nat.le_of_ble_eq_true rfl), (Nat.le_of_ble_eq_true rfl)⟩ rfl rfl rfl (Nat.le_of_ble_eq_true rfl) ⟨(Nat.le_of_ble_eq_true rfl), (Nat.le_of_ble_eq_true rfl)⟩ dX8_goes_11 ?_
      intro _ hu11
      refine z_eq (lv₂ := [(0, .ref v), (1, .ref (sa 0)), (2, .int 1)]) (st₂ := [.int (nI r), .ref (sa 0)]) ?_ rfl rfl
      refine z_iconst (pc := 14) gX 1 dX8_goes_14 (by decide) ?_
      refine z_cMV (pc := 15) gX hAX [.int (nI r), .int 1] [] [0, 1, 2, 3, 4, 5, 6] [] (fun A1 => met_X2_climbs l D B0 A1 sa st sp tk wn md d n ln wh od ra kd T r 1 (by first | assumption | omega) (by first | assumption | omega) (by first | assumption | omega) (by first | assumption | omega)) q913 q864 q865 q49 q866 (zm 0 rfl) (ci := 2) rfl rfl hd_X2_climbs ⟨rfl, rfl⟩ ⟨(Nat.le_of_ble_eq_true rfl), (Nat.le_of_ble_eq_true rfl)⟩ rfl rfl rfl rfl rfl (Nat.le_of_ble_eq_true rfl) ⟨(Nat.le_of_ble_eq_true rfl), (Nat.le_of_ble_eq_true rfl)⟩ dX8_goes_15 ?_
      intro _ hu15
      refine z_re [0, 1, 2, 3, 4, 5, 6] [[(sa 0, .inr (2, [.int st, .int sp, .int tk, .int wn, .ref (sa 1), .ref (sa 2), .ref (sa 3), .ref (sa 4)]))], [(sa 1, .inr (16, [.int md, .ref d, .int (nI n)]))], [(sa 2, .inl (D.1 100, 7, .inl ln))], [(sa 3, .inl (D.1 100, 7, .inl (climbW n (pkC st sp tk n ln wh kd) wh r 1)))], [(sa 4, .inl (D.1 100, 7, .inl od))], [(d, .inl (D.1 104, 10, .inr (.inr (.inr (.inr (rF ra n))))))], T] rfl rfl ?_
      refine z_eq (lv₂ := [(0, .ref v), (1, .ref (sa 0)), (2, .int 1)]) (st₂ := []) ?_ rfl rfl
      refine z_iinc (pc := 18) gX 2 0 [1, 2, 0] [(0, .ref v), (1, .ref (sa 0)), (2, .int 0)] dX8_goes_18 rfl (by decide) (by decide) rfl ?_
      refine z_goto (pc := 21) gX 5 dX8_goes_21 (by decide) ?_
      refine z_iload_n (pc := 5) gX 2 dX8_goes_5 rfl rfl ?_
      refine z_if_le (pc := 6) gX 24 dX8_goes_6 (by decide) (fun c6 => ?_) (fun c6 => ?_)
      · skip
        refine z_ext 3 (fun q => mMv n (pkC st sp tk n ln wh kd) r (2 + q)) rfl (goW2 (by omega) hkd) [[(sa 0, .inr (2, [.int st, .int sp, .int tk, .int wn, .ref (sa 1), .ref (sa 2), .ref (sa 3), .ref (sa 4)]))], [(sa 1, .inr (16, [.int md, .ref d, .int (nI n)]))], [(sa 2, .inl (D.1 100, 7, .inl ln))], [(sa 3, .inl (D.1 100, 7, .inl (fun q => mMv n (pkC st sp tk n ln wh kd) r (2 + q))))], [(sa 4, .inl (D.1 100, 7, .inl od))], [(d, .inl (D.1 104, 10, .inr (.inr (.inr (.inr (rF ra n))))))], T] rfl ?_
        exact z_vret gX hQX () trivial rfl rfl (by first | decide | omega) (by first | decide | omega) dX8_goes_24
      · skip
        exact absurd c6 (by decide)
  · skip
    refine z_aload_n (pc := 0) gX 0 dX8_goes_0 rfl rfl ?_
    refine z_cOU (n := 0) (pc := 1) gX (zI_ok gX hAX) [] [] [6] (met_X10_steps l D B0 v r T (by first | assumption | omega)) (gX.ts _ q895) (gX.ts _ q898) (va_Decl.of (gX.ts _ q896) (gX.ts _ q907)) q900 q899 q75 ⟨by decide +kernel, by decide +kernel, by decide +kernel⟩ q901 (zpm 6 rfl hv) (ci := 9) rfl ⟨rfl, rfl⟩ ⟨(Nat.le_of_ble_eq_true rfl), (Nat.le_of_ble_eq_true rfl)⟩ rfl rfl rfl (Nat.le_of_ble_eq_true rfl) ⟨(Nat.le_of_ble_eq_true rfl), (Nat.le_of_ble_eq_true rfl)⟩ dX8_goes_1 ?_
    intro _ hu1
    refine z_eq (lv₂ := [(0, .ref v), (1, .ref (sa 0))]) (st₂ := [.int 2]) ?_ rfl rfl
    refine z_top 2 rfl ?_
    refine z_istore_n (pc := 4) gX [1, 2, 0] [(0, .ref v), (1, .ref (sa 0)), (2, .int 2)] dX8_goes_4 rfl (by decide) rfl ?_
    refine z_iload_n (pc := 5) gX 2 dX8_goes_5 rfl rfl ?_
    refine z_if_le (pc := 6) gX 24 dX8_goes_6 (by decide) (fun c6 => ?_) (fun c6 => ?_)
    · skip
      exact absurd c6 (by decide)
    · skip
      refine z_aload_n (pc := 9) gX 1 dX8_goes_9 rfl rfl ?_
      refine z_aload_n (pc := 10) gX 0 dX8_goes_10 rfl rfl ?_
      refine z_cOU (n := 0) (pc := 11) gX (zI_ok gX hAX) [] [.ref (sa 0)] [6] (met_X7_number_3 l D B0 v r T (by first | assumption | omega)) (gX.ts _ q908) (gX.ts _ q909) (va_Decl.abs (gX.zk.decl q859)) q861 q910 q72 ⟨by decide +kernel, by decide +kernel, by decide +kernel⟩ q862 (zpm 6 rfl hv) (ci := 9) rfl ⟨rfl, rfl⟩ ⟨(Nat.le_of_ble_eq_true rfl), (Nat.le_of_ble_eq_true rfl)⟩ rfl rfl rfl (Nat.le_of_ble_eq_true rfl) ⟨(Nat.le_of_ble_eq_true rfl), (Nat.le_of_ble_eq_true rfl)⟩ dX8_goes_11 ?_
      intro _ hu11
      refine z_eq (lv₂ := [(0, .ref v), (1, .ref (sa 0)), (2, .int 2)]) (st₂ := [.int (nI r), .ref (sa 0)]) ?_ rfl rfl
      refine z_iconst (pc := 14) gX 1 dX8_goes_14 (by decide) ?_
      refine z_cMV (pc := 15) gX hAX [.int (nI r), .int 1] [] [0, 1, 2, 3, 4, 5, 6] [] (fun A1 => met_X2_climbs l D B0 A1 sa st sp tk wn md d n ln wh od ra kd T r 1 (by first | assumption | omega) (by first | assumption | omega) (by first | assumption | omega) (by first | assumption | omega)) q913 q864 q865 q49 q866 (zm 0 rfl) (ci := 2) rfl rfl hd_X2_climbs ⟨rfl, rfl⟩ ⟨(Nat.le_of_ble_eq_true rfl), (Nat.le_of_ble_eq_true rfl)⟩ rfl rfl rfl rfl rfl (Nat.le_of_ble_eq_true rfl) ⟨(Nat.le_of_ble_eq_true rfl), (Nat.le_of_ble_eq_true rfl)⟩ dX8_goes_15 ?_
      intro _ hu15
      refine z_re [0, 1, 2, 3, 4, 5, 6] [[(sa 0, .inr (2, [.int st, .int sp, .int tk, .int wn, .ref (sa 1), .ref (sa 2), .ref (sa 3), .ref (sa 4)]))], [(sa 1, .inr (16, [.int md, .ref d, .int (nI n)]))], [(sa 2, .inl (D.1 100, 7, .inl ln))], [(sa 3, .inl (D.1 100, 7, .inl (climbW n (pkC st sp tk n ln wh kd) wh r 1)))], [(sa 4, .inl (D.1 100, 7, .inl od))], [(d, .inl (D.1 104, 10, .inr (.inr (.inr (.inr (rF ra n))))))], T] rfl rfl ?_
      refine z_eq (lv₂ := [(0, .ref v), (1, .ref (sa 0)), (2, .int 2)]) (st₂ := []) ?_ rfl rfl
      refine z_iinc (pc := 18) gX 2 1 [1, 2, 0] [(0, .ref v), (1, .ref (sa 0)), (2, .int 1)] dX8_goes_18 rfl (by decide) (by decide) rfl ?_
      refine z_goto (pc := 21) gX 5 dX8_goes_21 (by decide) ?_
      refine z_iload_n (pc := 5) gX 2 dX8_goes_5 rfl rfl ?_
      refine z_if_le (pc := 6) gX 24 dX8_goes_6 (by decide) (fun c6 => ?_) (fun c6 => ?_)
      · skip
        exact absurd c6 (by decide)
      · skip
        refine z_aload_n (pc := 9) gX 1 dX8_goes_9 rfl rfl ?_
        refine z_aload_n (pc := 10) gX 0 dX8_goes_10 rfl rfl ?_
        refine z_cOU (n := 0) (pc := 11) gX (zI_ok gX hAX) [] [.ref (sa 0)] [6] (met_X7_number_3 l D B0 v r T (by first | assumption | omega)) (gX.ts _ q908) (gX.ts _ q909) (va_Decl.abs (gX.zk.decl q859)) q861 q910 q72 ⟨by decide +kernel, by decide +kernel, by decide +kernel⟩ q862 (zpm 6 rfl hv) (ci := 9) rfl ⟨rfl, rfl⟩ ⟨(Nat.le_of_ble_eq_true rfl), (Nat.le_of_ble_eq_true rfl)⟩ rfl rfl rfl (Nat.le_of_ble_eq_true rfl) ⟨(Nat.le_of_ble_eq_true rfl), (Nat.le_of_ble_eq_true rfl)⟩ dX8_goes_11 ?_
        intro _ hu11
        refine z_eq (lv₂ := [(0, .ref v), (1, .ref (sa 0)), (2, .int 1)]) (st₂ := [.int (nI r), .ref (sa 0)]) ?_ rfl rfl
        refine z_iconst (pc := 14) gX 1 dX8_goes_14 (by decide) ?_
        refine z_cMV (pc := 15) gX hAX [.int (nI r), .int 1] [] [0, 1, 2, 3, 4, 5, 6] [] (fun A1 => met_X2_climbs l D B0 A1 sa st sp tk wn md d n ln (climbW n (pkC st sp tk n ln wh kd) wh r 1) od ra kd T r 1 (by first | assumption | omega) (by first | assumption | omega) (by first | assumption | omega) (by first | assumption | omega)) q913 q864 q865 q49 q866 (zm 0 rfl) (ci := 2) rfl rfl hd_X2_climbs ⟨rfl, rfl⟩ ⟨(Nat.le_of_ble_eq_true rfl), (Nat.le_of_ble_eq_true rfl)⟩ rfl rfl rfl rfl rfl (Nat.le_of_ble_eq_true rfl) ⟨(Nat.le_of_ble_eq_true rfl), (Nat.le_of_ble_eq_true rfl)⟩ dX8_goes_15 ?_
        intro _ hu15
        refine z_re [0, 1, 2, 3, 4, 5, 6] [[(sa 0, .inr (2, [.int st, .int sp, .int tk, .int wn, .ref (sa 1), .ref (sa 2), .ref (sa 3), .ref (sa 4)]))], [(sa 1, .inr (16, [.int md, .ref d, .int (nI n)]))], [(sa 2, .inl (D.1 100, 7, .inl ln))], [(sa 3, .inl (D.1 100, 7, .inl (climbW n (pkC st sp tk n ln (climbW n (pkC st sp tk n ln wh kd) wh r 1) kd) (climbW n (pkC st sp tk n ln wh kd) wh r 1) r 1)))], [(sa 4, .inl (D.1 100, 7, .inl od))], [(d, .inl (D.1 104, 10, .inr (.inr (.inr (.inr (rF ra n))))))], T] rfl rfl ?_
        refine z_eq (lv₂ := [(0, .ref v), (1, .ref (sa 0)), (2, .int 1)]) (st₂ := []) ?_ rfl rfl
        refine z_iinc (pc := 18) gX 2 0 [1, 2, 0] [(0, .ref v), (1, .ref (sa 0)), (2, .int 0)] dX8_goes_18 rfl (by decide) (by decide) rfl ?_
        refine z_goto (pc := 21) gX 5 dX8_goes_21 (by decide) ?_
        refine z_iload_n (pc := 5) gX 2 dX8_goes_5 rfl rfl ?_
        refine z_if_le (pc := 6) gX 24 dX8_goes_6 (by decide) (fun c6 => ?_) (fun c6 => ?_)
        · skip
          refine z_ext 3 (fun q => mMv n (pkC st sp tk n ln wh kd) r (2 + q)) rfl (goW3 (by omega) hkd) [[(sa 0, .inr (2, [.int st, .int sp, .int tk, .int wn, .ref (sa 1), .ref (sa 2), .ref (sa 3), .ref (sa 4)]))], [(sa 1, .inr (16, [.int md, .ref d, .int (nI n)]))], [(sa 2, .inl (D.1 100, 7, .inl ln))], [(sa 3, .inl (D.1 100, 7, .inl (fun q => mMv n (pkC st sp tk n ln wh kd) r (2 + q))))], [(sa 4, .inl (D.1 100, 7, .inl od))], [(d, .inl (D.1 104, 10, .inr (.inr (.inr (.inr (rF ra n))))))], T] rfl ?_
          exact z_vret gX hQX () trivial rfl rfl (by first | decide | omega) (by first | decide | omega) dX8_goes_24
        · skip
          exact absurd c6 (by decide)
theorem hd_X8_goes : zHd yX8_goes 1 := by unfold zHd; decide +kernel

set_option maxHeartbeats 4000000 in
theorem met_X11_goes (l : Launch) (D : va_G) (B0 : Nat) (v : Nat) (x : Nat)  : Met l yX11_goes (ws_ yX11_goes cX11_goes 2 none) (zRm 1 0 0) (va_Pc [.ref v, .ref x] (zPreO B0 D [])) (zQo (S := Unit) (fun _ => True) (fun _ => none)) 0 0 (fun _ => False) := by
  refine z_entryo (by decide +kernel) (Nat.le_of_ble_eq_true rfl) (fun pX eX sX mX argsX blX mtX cX QX hQX gX => ?_)
  refine z_eq (lv₂ := [(0, .ref v), (1, .ref x)]) (st₂ := []) ?_ rfl rfl
  exact z_vreto gX hQX () trivial rfl dX11_goes_0
theorem hd_X11_goes : zHd yX11_goes 1 := by unfold zHd; decide +kernel

set_option maxHeartbeats 4000000 in
theorem met_X12_goes (l : Launch) (D : va_G) (B0 : Nat) (A : Nat → Prop) (sa : Nat → Nat) (st : Int32) (sp : Int32) (tk : Int32) (wn : Int32) (md : Int32) (d : Nat) (n : Nat) (ln : Nat → Int32) (wh : Nat → Int32) (od : Nat → Int32) (ra : Nat → Nat) (kd : Nat → Int32) (T : va_W) (v : Nat) (r : Nat) (hn7 : n ≤ 7) (hR : rOK T n ra kd) (hl : ∀ q, q < n → ln q = 0 ∨ ln q = 1) (hr : r < n) (hkd : kd r = 5) (hv : (v, (Sum.inr (11, [Value.int (nI r)]) : va_E)) ∈ T) : Met l yX12_goes (ws_ yX12_goes cX12_goes 2 none) (zRm 8 0 0) (va_Pc [.ref v, .ref (sa 0)] (zPre B0 D A [[(sa 0, .inr (2, [.int st, .int sp, .int tk, .int wn, .ref (sa 1), .ref (sa 2), .ref (sa 3), .ref (sa 4)]))], [(sa 1, .inr (16, [.int md, .ref d, .int (nI n)]))], [(sa 2, .inl (D.1 100, 7, .inl ln))], [(sa 3, .inl (D.1 100, 7, .inl wh))], [(sa 4, .inl (D.1 100, 7, .inl od))], [(d, .inl (D.1 104, 10, .inr (.inr (.inr (.inr (rF ra n))))))], T])) (zQ (S := Unit) (fun _ => True) (fun _ => none) (fun _ => [[(sa 0, .inr (2, [.int st, .int sp, .int tk, .int wn, .ref (sa 1), .ref (sa 2), .ref (sa 3), .ref (sa 4)]))], [(sa 1, .inr (16, [.int md, .ref d, .int (nI n)]))], [(sa 2, .inl (D.1 100, 7, .inl ln))], [(sa 3, .inl (D.1 100, 7, .inl (fun q => mMv n (pkC st sp tk n ln wh kd) r (2 + q))))], [(sa 4, .inl (D.1 100, 7, .inl od))], [(d, .inl (D.1 104, 10, .inr (.inr (.inr (.inr (rF ra n))))))], T]) D A) 0 0 A := by
  refine z_entry (by decide +kernel) (Nat.le_of_ble_eq_true rfl) (fun pX eX sX mX argsX blX mtX cX QX hQX gX hAX hnm => ?_)
  refine z_eq (lv₂ := [(0, .ref v), (1, .ref (sa 0))]) (st₂ := []) ?_ rfl rfl
  refine z_aload_n (pc := 0) gX 0 dX12_goes_0 rfl rfl ?_
  refine z_aload_n (pc := 1) gX 1 dX12_goes_1 rfl rfl ?_
  refine z_cOSU (pc := 2) gX (zI_ok gX hAX) [.ref (sa 0)] [] [] (met_X11_goes l D B0 v (sa 0) ) q854 q1700 q713 q855 q76 (by decide +kernel) hd_X11_goes q856 (zpm 6 rfl hv) (ci := 11) rfl ⟨rfl, rfl⟩ ⟨(Nat.le_of_ble_eq_true rfl), (Nat.le_of_ble_eq_true rfl)⟩ rfl rfl rfl (Nat.le_of_ble_eq_true rfl) ⟨(Nat.le_of_ble_eq_true rfl), (Nat.le_of_ble_eq_true rfl)⟩ dX12_goes_2 ?_
  intro _ hu2
  refine z_eq (lv₂ := [(0, .ref v), (1, .ref (sa 0))]) (st₂ := []) ?_ rfl rfl
  refine z_aload_n (pc := 5) gX 1 dX12_goes_5 rfl rfl ?_
  refine z_get (pc := 6) gX (zI_ok gX hAX) (zm 0 rfl) (ci := 2) (C := RX2) (T := TX2) (N := 8) rfl in_X2 2 (by decide) q153 (fun _ h => h) (v := .int tk) rfl dX12_goes_6 ?_
  refine z_iconst (pc := 9) gX 2 dX12_goes_9 (by decide) ?_
  refine z_irem (pc := 10) gX dX12_goes_10 (by decide) ?_
  refine z_iconst (pc := 11) gX 1 dX12_goes_11 (by decide) ?_
  refine z_icmp_ne (pc := 12) gX 24 dX12_goes_12 (by decide) (fun c12 => ?_) (fun c12 => ?_)
  · skip
    refine z_ext 3 (fun q => mMv n (pkC st sp tk n ln wh kd) r (2 + q)) rfl (goW5n hkd c12) [[(sa 0, .inr (2, [.int st, .int sp, .int tk, .int wn, .ref (sa 1), .ref (sa 2), .ref (sa 3), .ref (sa 4)]))], [(sa 1, .inr (16, [.int md, .ref d, .int (nI n)]))], [(sa 2, .inl (D.1 100, 7, .inl ln))], [(sa 3, .inl (D.1 100, 7, .inl (fun q => mMv n (pkC st sp tk n ln wh kd) r (2 + q))))], [(sa 4, .inl (D.1 100, 7, .inl od))], [(d, .inl (D.1 104, 10, .inr (.inr (.inr (.inr (rF ra n))))))], T] rfl ?_
    exact z_vret gX hQX () trivial rfl rfl (by first | decide | omega) (by first | decide | omega) dX12_goes_24
  · skip
    refine z_aload_n (pc := 15) gX 1 dX12_goes_15 rfl rfl ?_
    refine z_aload_n (pc := 16) gX 0 dX12_goes_16 rfl rfl ?_
    refine z_cOU (n := 0) (pc := 17) gX (zI_ok gX hAX) [] [.ref (sa 0)] [6] (met_X7_number_5 l D B0 v r T (by first | assumption | omega)) (gX.ts _ q857) (gX.ts _ q858) (va_Decl.abs (gX.zk.decl q859)) q861 q860 q72 ⟨by decide +kernel, by decide +kernel, by decide +kernel⟩ q862 (zpm 6 rfl hv) (ci := 11) rfl ⟨rfl, rfl⟩ ⟨(Nat.le_of_ble_eq_true rfl), (Nat.le_of_ble_eq_true rfl)⟩ rfl rfl rfl (Nat.le_of_ble_eq_true rfl) ⟨(Nat.le_of_ble_eq_true rfl), (Nat.le_of_ble_eq_true rfl)⟩ dX12_goes_17 ?_
    intro _ hu17
    refine z_eq (lv₂ := [(0, .ref v), (1, .ref (sa 0))]) (st₂ := [.int (nI r), .ref (sa 0)]) ?_ rfl rfl
    refine z_iconst (pc := 20) gX (-1) dX12_goes_20 (by decide) ?_
    refine z_cMV (pc := 21) gX hAX [.int (nI r), .int (-1)] [] [0, 1, 2, 3, 4, 5, 6] [] (fun A1 => met_X2_climbs l D B0 A1 sa st sp tk wn md d n ln wh od ra kd T r (-1) (by first | assumption | omega) (by first | assumption | omega) (by first | assumption | omega) (by first | assumption | omega)) q863 q864 q865 q49 q866 (zm 0 rfl) (ci := 2) rfl rfl hd_X2_climbs ⟨rfl, rfl⟩ ⟨(Nat.le_of_ble_eq_true rfl), (Nat.le_of_ble_eq_true rfl)⟩ rfl rfl rfl rfl rfl (Nat.le_of_ble_eq_true rfl) ⟨(Nat.le_of_ble_eq_true rfl), (Nat.le_of_ble_eq_true rfl)⟩ dX12_goes_21 ?_
    intro _ hu21
    refine z_re [0, 1, 2, 3, 4, 5, 6] [[(sa 0, .inr (2, [.int st, .int sp, .int tk, .int wn, .ref (sa 1), .ref (sa 2), .ref (sa 3), .ref (sa 4)]))], [(sa 1, .inr (16, [.int md, .ref d, .int (nI n)]))], [(sa 2, .inl (D.1 100, 7, .inl ln))], [(sa 3, .inl (D.1 100, 7, .inl (climbW n (pkC st sp tk n ln wh kd) wh r (-1))))], [(sa 4, .inl (D.1 100, 7, .inl od))], [(d, .inl (D.1 104, 10, .inr (.inr (.inr (.inr (rF ra n))))))], T] rfl rfl ?_
    refine z_eq (lv₂ := [(0, .ref v), (1, .ref (sa 0))]) (st₂ := []) ?_ rfl rfl
    refine z_ext 3 (fun q => mMv n (pkC st sp tk n ln wh kd) r (2 + q)) rfl (goW5 (by omega) hkd c12) [[(sa 0, .inr (2, [.int st, .int sp, .int tk, .int wn, .ref (sa 1), .ref (sa 2), .ref (sa 3), .ref (sa 4)]))], [(sa 1, .inr (16, [.int md, .ref d, .int (nI n)]))], [(sa 2, .inl (D.1 100, 7, .inl ln))], [(sa 3, .inl (D.1 100, 7, .inl (fun q => mMv n (pkC st sp tk n ln wh kd) r (2 + q))))], [(sa 4, .inl (D.1 100, 7, .inl od))], [(d, .inl (D.1 104, 10, .inr (.inr (.inr (.inr (rF ra n))))))], T] rfl ?_
    exact z_vret gX hQX () trivial rfl rfl (by first | decide | omega) (by first | decide | omega) dX12_goes_24
theorem hd_X12_goes : zHd yX12_goes 1 := by unfold zHd; decide +kernel

set_option maxHeartbeats 4000000 in
theorem met_X2_lineUp (l : Launch) (D : va_G) (B0 : Nat) (A : Nat → Prop) (sa : Nat → Nat) (st : Int32) (sp : Int32) (tk : Int32) (wn : Int32) (md : Int32) (d : Nat) (n : Nat) (ln : Nat → Int32) (wh : Nat → Int32) (od : Nat → Int32) (k : Nat) (hn7 : n ≤ 7) (hst : st = nI k) (hk : k ≤ 12) : Met l yX2_lineUp (ws_ yX2_lineUp cX2_lineUp 5 (some .int)) (zRm 3 0 0) (va_Pc [.ref (sa 0)] (zPre B0 D A [[(sa 0, .inr (2, [.int st, .int sp, .int tk, .int wn, .ref (sa 1), .ref (sa 2), .ref (sa 3), .ref (sa 4)]))], [(sa 1, .inr (16, [.int md, .ref d, .int (nI n)]))], [(sa 2, .inl (D.1 100, 7, .inl ln))], [(sa 3, .inl (D.1 100, 7, .inl wh))], [(sa 4, .inl (D.1 100, 7, .inl od))]])) (zQ (S := (Nat → Int32)) (fun u => (fun (od1 : Nat → Int32) => ∀ i, i < (ordS wh ln n k).length → od1 i = nI ((ordS wh ln n k).getD i 0)) u) (fun u => (fun (od1 : Nat → Int32) => some (.int (nI ((ordS wh ln n k).length)))) u) (fun u => (fun (od1 : Nat → Int32) => [[(sa 0, .inr (2, [.int st, .int sp, .int tk, .int wn, .ref (sa 1), .ref (sa 2), .ref (sa 3), .ref (sa 4)]))], [(sa 1, .inr (16, [.int md, .ref d, .int (nI n)]))], [(sa 2, .inl (D.1 100, 7, .inl ln))], [(sa 3, .inl (D.1 100, 7, .inl wh))], [(sa 4, .inl (D.1 100, 7, .inl od1))]]) u) D A) 0 0 A := by
  refine z_entry (by decide +kernel) (Nat.le_of_ble_eq_true rfl) (fun pX eX sX mX argsX blX mtX cX QX hQX gX hAX hnm => ?_)
  refine z_eq (lv₂ := [(0, .ref (sa 0))]) (st₂ := []) ?_ rfl rfl
  refine z_iconst (pc := 0) gX 0 dX2_lineUp_0 (by decide) ?_
  refine z_istore_n (pc := 1) gX [1, 0] [(0, .ref (sa 0)), (1, .int 0)] dX2_lineUp_1 rfl (by decide) rfl ?_
  refine z_aload_n (pc := 2) gX 0 dX2_lineUp_2 rfl rfl ?_
  refine z_get (pc := 3) gX (zI_ok gX hAX) (zm 0 rfl) (ci := 2) (C := RX2) (T := TX2) (N := 8) rfl in_X2 0 (by decide) q144 (fun _ h => h) (v := .int st) rfl dX2_lineUp_3 ?_
  refine z_top (nI k) hst ?_
  refine z_iconst (pc := 6) gX 1 dX2_lineUp_6 (by decide) ?_
  refine z_isub (pc := 7) gX dX2_lineUp_7 ?_
  refine z_istore_n (pc := 8) gX [1, 2, 0] [(0, .ref (sa 0)), (1, .int 0), (2, .int ((nI k) - 1))] dX2_lineUp_8 rfl (by decide) rfl ?_
  have hlen : (ordS wh ln n k).length ≤ 7 := Nat.le_trans (ordS_len (by omega)) hn7
  have L9 : ∀ (n9 : Nat) (j : Nat) (m : Nat) (od1 : Nat → Int32), (j ≤ k) → (m ≤ (ordS wh ln n k).length) → (∀ i, i < m → od1 i = nI ((ordS wh ln n k).getD i 0)) → ((ordS wh ln n k).drop m = ordS wh ln n j) → j < n9 → zJ pX l eX (zRm 3 0 0) sX mX argsX blX mtX cX QX 5 (zI D A sX [[(sa 0, .inr (2, [.int st, .int sp, .int tk, .int wn, .ref (sa 1), .ref (sa 2), .ref (sa 3), .ref (sa 4)]))], [(sa 1, .inr (16, [.int md, .ref d, .int (nI n)]))], [(sa 2, .inl (D.1 100, 7, .inl ln))], [(sa 3, .inl (D.1 100, 7, .inl wh))], [(sa 4, .inl (D.1 100, 7, .inl od1))]]) 0 0 9 [(0, .ref (sa 0)), (1, .int (nI m)), (2, .int (nI j - 1))] [] := by
    intro n9
    induction n9 with
    | zero => exact fun j m od1 hj hm hod hrem hm9 => absurd hm9 (Nat.not_lt_zero _)
    | succ n9 ih9 =>
      intro j m od1 hj hm hod hrem hm9
      refine z_iload_n (pc := 9) gX 2 dX2_lineUp_9 rfl rfl ?_
      refine z_if_lt (pc := 10) gX 86 dX2_lineUp_10 (by decide) (fun c10 => ?_) (fun c10 => ?_)
      · skip
        have hj0 := zpred_neg c10 (by omega)
        subst hj0
        refine z_iload_n (pc := 86) gX 1 dX2_lineUp_86 rfl rfl ?_
        exact z_rim gX hQX od1 (fun i hi => hod i (by have h := List.drop_eq_nil_iff.mp hrem; omega)) (zsv (by rw [show m = (ordS wh ln n k).length by have h := List.drop_eq_nil_iff.mp hrem; omega])) rfl (by first | decide | omega) (by first | decide | omega) dX2_lineUp_87
      · skip
        obtain ⟨j0, rfl⟩ := zpred_pos c10
        refine z_eq (lv₂ := [(0, .ref (sa 0)), (1, .int (nI m)), (2, .int (nI j0))]) (st₂ := []) ?_ (by rw [nI_pred]) rfl
        refine z_iconst (pc := 13) gX 0 dX2_lineUp_13 (by decide) ?_
        refine z_istore_n (pc := 14) gX [1, 2, 3, 0] [(0, .ref (sa 0)), (1, .int (nI m)), (2, .int (nI j0)), (3, .int 0)] dX2_lineUp_14 rfl (by decide) rfl ?_
        have L15 : ∀ (n15 : Nat) (la : Nat) (m2 : Nat) (od2 : Nat → Int32), (la ≤ 2) → (m2 ≤ (ordS wh ln n k).length) → (∀ i, i < m2 → od2 i = nI ((ordS wh ln n k).getD i 0)) → ((ordS wh ln n k).drop m2 = lnF wh ln n (nI j0) la ++ ordS wh ln n j0) → 2 - la < n15 → zJ pX l eX (zRm 3 0 0) sX mX argsX blX mtX cX QX 5 (zI D A sX [[(sa 0, .inr (2, [.int st, .int sp, .int tk, .int wn, .ref (sa 1), .ref (sa 2), .ref (sa 3), .ref (sa 4)]))], [(sa 1, .inr (16, [.int md, .ref d, .int (nI n)]))], [(sa 2, .inl (D.1 100, 7, .inl ln))], [(sa 3, .inl (D.1 100, 7, .inl wh))], [(sa 4, .inl (D.1 100, 7, .inl od2))]]) 0 0 15 [(0, .ref (sa 0)), (1, .int (nI m2)), (2, .int (nI j0)), (3, .int (nI la))] [] := by
          intro n15
          induction n15 with
          | zero => exact fun la m2 od2 hla hm2 hod2 hrem2 hm15 => absurd hm15 (Nat.not_lt_zero _)
          | succ n15 ih15 =>
            intro la m2 od2 hla hm2 hod2 hrem2 hm15
            refine z_iload_n (pc := 15) gX 3 dX2_lineUp_15 rfl rfl ?_
            refine z_iconst (pc := 16) gX 2 dX2_lineUp_16 (by decide) ?_
            refine z_icmp_ge (pc := 17) gX 80 dX2_lineUp_17 (by decide) (fun c17 => ?_) (fun c17 => ?_)
            · skip
              have k17 : 2 ≤ la := (zn_le (a := 2) (b := la) (by omega) (by omega)).mp c17
              refine z_iinc (pc := 80) gX 2 (nI j0 - 1) [1, 2, 0, 3] [(0, .ref (sa 0)), (1, .int (nI m2)), (2, .int (nI j0 - 1)), (3, .int (nI la))] dX2_lineUp_80 rfl (zm1 _) (by decide) rfl ?_
              refine z_goto (pc := 83) gX 9 dX2_lineUp_83 (by decide) ?_
              refine z_lv [0, 1, 2] [(0, .ref (sa 0)), (1, .int (nI m2)), (2, .int (nI j0 - 1))] rfl ?_
              exact ih9 j0 m2 od2 (by omega) hm2 hod2 (by rw [show la = 2 by omega] at hrem2; exact hrem2) (by omega)
            · skip
              have k17 : la < 2 := (zn_nle (a := 2) (b := la) (by omega) (by omega)).mp c17
              refine z_iconst (pc := 20) gX 0 dX2_lineUp_20 (by decide) ?_
              refine z_istore (pc := 21) gX [1, 2, 3, 4, 0] [(0, .ref (sa 0)), (1, .int (nI m2)), (2, .int (nI j0)), (3, .int (nI la)), (4, .int 0)] dX2_lineUp_21 (by decide) rfl ?_
              have L23 : ∀ (n23 : Nat) (r : Nat) (m3 : Nat) (od3 : Nat → Int32), (r ≤ n) → (m3 ≤ (ordS wh ln n k).length) → (∀ i, i < m3 → od3 i = nI ((ordS wh ln n k).getD i 0)) → ((ordS wh ln n k).drop m3 = ordF wh ln (nI j0) (nI la) (n - r) r ++ (lnF wh ln n (nI j0) (la + 1) ++ ordS wh ln n j0)) → n - r < n23 → zJ pX l eX (zRm 3 0 0) sX mX argsX blX mtX cX QX 5 (zI D A sX [[(sa 0, .inr (2, [.int st, .int sp, .int tk, .int wn, .ref (sa 1), .ref (sa 2), .ref (sa 3), .ref (sa 4)]))], [(sa 1, .inr (16, [.int md, .ref d, .int (nI n)]))], [(sa 2, .inl (D.1 100, 7, .inl ln))], [(sa 3, .inl (D.1 100, 7, .inl wh))], [(sa 4, .inl (D.1 100, 7, .inl od3))]]) 0 0 23 [(0, .ref (sa 0)), (1, .int (nI m3)), (2, .int (nI j0)), (3, .int (nI la)), (4, .int (nI r))] [] := by
                intro n23
                induction n23 with
                | zero => exact fun r m3 od3 hr3 hm3 hod3 hrem3 hm23 => absurd hm23 (Nat.not_lt_zero _)
                | succ n23 ih23 =>
                  intro r m3 od3 hr3 hm3 hod3 hrem3 hm23
                  refine z_iload (pc := 23) gX 4 dX2_lineUp_23 rfl ?_
                  refine z_aload_n (pc := 25) gX 0 dX2_lineUp_25 rfl rfl ?_
                  refine z_cOV (pc := 26) gX (zI_ok gX hAX) [] [.int (nI r)] [0, 1] (met_X2_many l D B0 sa st sp tk wn md d n ) q847 q653 q654 q49 q655 (zm 0 rfl) (ci := 2) rfl rfl hd_X2_many ⟨rfl, rfl⟩ ⟨(Nat.le_of_ble_eq_true rfl), (Nat.le_of_ble_eq_true rfl)⟩ rfl rfl rfl (Nat.le_of_ble_eq_true rfl) ⟨(Nat.le_of_ble_eq_true rfl), (Nat.le_of_ble_eq_true rfl)⟩ dX2_lineUp_26 ?_
                  intro _ hu26
                  refine z_eq (lv₂ := [(0, .ref (sa 0)), (1, .int (nI m3)), (2, .int (nI j0)), (3, .int (nI la)), (4, .int (nI r))]) (st₂ := [.int (nI n), .int (nI r)]) ?_ rfl rfl
                  refine z_icmp_ge (pc := 29) gX 74 dX2_lineUp_29 (by decide) (fun c29 => ?_) (fun c29 => ?_)
                  · skip
                    have k29 : n ≤ r := (zn_le (a := n) (b := r) (by omega) (by omega)).mp c29
                    refine z_iinc (pc := 74) gX 3 (nI (la + 1)) [1, 2, 3, 0, 4] [(0, .ref (sa 0)), (1, .int (nI m3)), (2, .int (nI j0)), (3, .int (nI (la + 1))), (4, .int (nI r))] dX2_lineUp_74 rfl (nI_1 _) (by decide) rfl ?_
                    refine z_goto (pc := 77) gX 15 dX2_lineUp_77 (by decide) ?_
                    refine z_lv [0, 1, 2, 3] [(0, .ref (sa 0)), (1, .int (nI m3)), (2, .int (nI j0)), (3, .int (nI (la + 1)))] rfl ?_
                    exact ih15 (la + 1) m3 od3 (by omega) hm3 hod3 (by rw [show n - r = 0 by omega] at hrem3; exact hrem3) (by omega)
                  · skip
                    have k29 : r < n := (zn_nle (a := n) (b := r) (by omega) (by omega)).mp c29
                    refine z_aload_n (pc := 32) gX 0 dX2_lineUp_32 rfl rfl ?_
                    refine z_get (pc := 33) gX (zI_ok gX hAX) (zm 0 rfl) (ci := 2) (C := RX2) (T := TX2) (N := 8) rfl in_X2 6 (by decide) q167 (fun _ h => h) (v := .ref (sa 3)) rfl dX2_lineUp_33 ?_
                    refine z_iload (pc := 36) gX 4 dX2_lineUp_36 rfl ?_
                    refine z_iald (pc := 38) gX (zI_ok gX hAX) (j := r) (n := 7) (f := wh) (zm 3 rfl) (by omega) (by decide) dX2_lineUp_38 ?_
                    refine z_iload_n (pc := 39) gX 2 dX2_lineUp_39 rfl rfl ?_
                    refine z_icmp_ne (pc := 40) gX 68 dX2_lineUp_40 (by decide) (fun c40 => ?_) (fun c40 => ?_)
                    · skip
                      refine z_iinc (pc := 68) gX 4 (nI (r + 1)) [1, 2, 3, 4, 0] [(0, .ref (sa 0)), (1, .int (nI m3)), (2, .int (nI j0)), (3, .int (nI la)), (4, .int (nI (r + 1)))] dX2_lineUp_68 rfl (nI_1 _) (by decide) rfl ?_
                      refine z_goto (pc := 71) gX 23 dX2_lineUp_71 (by decide) ?_
                      exact ih23 (r + 1) m3 od3 (by omega) hm3 hod3 (by rw [hrem3, ordF_s k29, if_neg (fun h => c40 h.1)]) (by omega)
                    · skip
                      refine z_aload_n (pc := 43) gX 0 dX2_lineUp_43 rfl rfl ?_
                      refine z_get (pc := 44) gX (zI_ok gX hAX) (zm 0 rfl) (ci := 2) (C := RX2) (T := TX2) (N := 8) rfl in_X2 5 (by decide) q161 (fun _ h => h) (v := .ref (sa 2)) rfl dX2_lineUp_44 ?_
                      refine z_iload (pc := 47) gX 4 dX2_lineUp_47 rfl ?_
                      refine z_iald (pc := 49) gX (zI_ok gX hAX) (j := r) (n := 7) (f := ln) (zm 2 rfl) (by omega) (by decide) dX2_lineUp_49 ?_
                      refine z_iload_n (pc := 50) gX 3 dX2_lineUp_50 rfl rfl ?_
                      refine z_icmp_eq (pc := 51) gX 57 dX2_lineUp_51 (by decide) (fun c51 => ?_) (fun c51 => ?_)
                      · skip
                        have hdr := dropN (l := (ordS wh ln n k)) (k := m3) (b := r) (by rw [hrem3, ordF_s k29, if_pos ⟨c40, c51⟩]; rfl)
                        refine z_aload_n (pc := 57) gX 0 dX2_lineUp_57 rfl rfl ?_
                        refine z_get (pc := 58) gX (zI_ok gX hAX) (zm 0 rfl) (ci := 2) (C := RX2) (T := TX2) (N := 8) rfl in_X2 7 (by decide) q172 (fun _ h => h) (v := .ref (sa 4)) rfl dX2_lineUp_58 ?_
                        refine z_iload_n (pc := 61) gX 1 dX2_lineUp_61 rfl rfl ?_
                        refine z_iload (pc := 62) gX 4 dX2_lineUp_62 rfl ?_
                        refine z_iast (pc := 64) gX hAX 4 (j := m3) (n := 7) (f := od3) rfl (by omega) (by decide) [[(sa 0, .inr (2, [.int st, .int sp, .int tk, .int wn, .ref (sa 1), .ref (sa 2), .ref (sa 3), .ref (sa 4)]))], [(sa 1, .inr (16, [.int md, .ref d, .int (nI n)]))], [(sa 2, .inl (D.1 100, 7, .inl ln))], [(sa 3, .inl (D.1 100, 7, .inl wh))], [(sa 4, .inl (D.1 100, 7, .inl (upd od3 m3 (nI r))))]] rfl dX2_lineUp_64 ?_
                        refine z_iinc (pc := 65) gX 1 (nI (m3 + 1)) [1, 0, 2, 3, 4] [(0, .ref (sa 0)), (1, .int (nI (m3 + 1))), (2, .int (nI j0)), (3, .int (nI la)), (4, .int (nI r))] dX2_lineUp_65 rfl (nI_1 _) (by decide) rfl ?_
                        refine z_iinc (pc := 68) gX 4 (nI (r + 1)) [1, 2, 3, 4, 0] [(0, .ref (sa 0)), (1, .int (nI (m3 + 1))), (2, .int (nI j0)), (3, .int (nI la)), (4, .int (nI (r + 1)))] dX2_lineUp_68 rfl (nI_1 _) (by decide) rfl ?_
                        refine z_goto (pc := 71) gX 23 dX2_lineUp_71 (by decide) ?_
                        exact ih23 (r + 1) (m3 + 1) (upd od3 m3 (nI r)) (by omega) (by omega) (od_s hod3 hdr.2.1) hdr.2.2 (by omega)
                      · skip
                        refine z_goto (pc := 54) gX 68 dX2_lineUp_54 (by decide) ?_
                        refine z_iinc (pc := 68) gX 4 (nI (r + 1)) [1, 2, 3, 4, 0] [(0, .ref (sa 0)), (1, .int (nI m3)), (2, .int (nI j0)), (3, .int (nI la)), (4, .int (nI (r + 1)))] dX2_lineUp_68 rfl (nI_1 _) (by decide) rfl ?_
                        refine z_goto (pc := 71) gX 23 dX2_lineUp_71 (by decide) ?_
                        exact ih23 (r + 1) m3 od3 (by omega) hm3 hod3 (by rw [hrem3, ordF_s k29, if_neg (fun h => c51 h.2)]) (by omega)
              exact L23 ((n - 0) + 1) 0 m2 od2 (by omega) hm2 hod2 (by rw [hrem2, lnF_s k17, List.append_assoc]) (Nat.lt_succ_self _)
        exact L15 ((2 - 0) + 1) 0 m od1 (by omega) hm hod hrem (Nat.lt_succ_self _)
  exact L9 (k + 1) k 0 od (by omega) (by omega) (fun i h => absurd h (Nat.not_lt_zero _)) rfl (Nat.lt_succ_self _)
theorem hd_X2_lineUp : zHd yX2_lineUp 0 := by unfold zHd; decide +kernel

def comeW (n : Nat) (C wh : Nat → Int32) : Nat → Int32 := match fstF (mCand n C) n 0 with
  | some r => upd wh r 0
  | none => wh
theorem pkC_come {st sp tk : Int32} {n : Nat} {ln wh kd : Nat → Int32} (h : n ≤ 7) : pkC st sp tk n ln (comeW n (pkC st sp tk n ln wh kd) wh) kd = mCome n (pkC st sp tk n ln wh kd) := by
  unfold comeW mCome
  split
  · rename_i r e
    rw [e, pkC_up (by have := (fst_lt e).1; omega)]
  · rename_i e
    rw [e]

set_option maxHeartbeats 4000000 in
theorem met_X2_comes (l : Launch) (D : va_G) (B0 : Nat) (A : Nat → Prop) (sa : Nat → Nat) (st : Int32) (sp : Int32) (tk : Int32) (wn : Int32) (md : Int32) (d : Nat) (n : Nat) (ln : Nat → Int32) (wh : Nat → Int32) (od : Nat → Int32) (ra : Nat → Nat) (kd : Nat → Int32) (T : va_W) (hn7 : n ≤ 7) (hR : rOK T n ra kd) (hl : ∀ q, q < n → ln q = 0 ∨ ln q = 1) : Met l yX2_comes (ws_ yX2_comes cX2_comes 2 none) (zRm 7 0 0) (va_Pc [.ref (sa 0)] (zPre B0 D A [[(sa 0, .inr (2, [.int st, .int sp, .int tk, .int wn, .ref (sa 1), .ref (sa 2), .ref (sa 3), .ref (sa 4)]))], [(sa 1, .inr (16, [.int md, .ref d, .int (nI n)]))], [(sa 2, .inl (D.1 100, 7, .inl ln))], [(sa 3, .inl (D.1 100, 7, .inl wh))], [(sa 4, .inl (D.1 100, 7, .inl od))], [(d, .inl (D.1 104, 10, .inr (.inr (.inr (.inr (rF ra n))))))], T])) (zQ (S := Unit) (fun _ => True) (fun _ => none) (fun _ => [[(sa 0, .inr (2, [.int st, .int sp, .int tk, .int wn, .ref (sa 1), .ref (sa 2), .ref (sa 3), .ref (sa 4)]))], [(sa 1, .inr (16, [.int md, .ref d, .int (nI n)]))], [(sa 2, .inl (D.1 100, 7, .inl ln))], [(sa 3, .inl (D.1 100, 7, .inl (comeW n (pkC st sp tk n ln wh kd) wh)))], [(sa 4, .inl (D.1 100, 7, .inl od))], [(d, .inl (D.1 104, 10, .inr (.inr (.inr (.inr (rF ra n))))))], T]) D A) 0 0 A := by
  refine z_entry (by decide +kernel) (Nat.le_of_ble_eq_true rfl) (fun pX eX sX mX argsX blX mtX cX QX hQX gX hAX hnm => ?_)
  refine z_eq (lv₂ := [(0, .ref (sa 0))]) (st₂ := []) ?_ rfl rfl
  refine z_iconst (pc := 0) gX 0 dX2_comes_0 (by decide) ?_
  refine z_istore_n (pc := 1) gX [1, 0] [(0, .ref (sa 0)), (1, .int 0)] dX2_comes_1 rfl (by decide) rfl ?_
  have L2 : ∀ (n2 : Nat) (r : Nat), (r ≤ n) → (fstF (mCand n (pkC st sp tk n ln wh kd)) n 0 = fstF (mCand n (pkC st sp tk n ln wh kd)) (n - r) r) → n - r < n2 → zJ pX l eX (zRm 7 0 0) sX mX argsX blX mtX cX QX 2 (zI D A sX [[(sa 0, .inr (2, [.int st, .int sp, .int tk, .int wn, .ref (sa 1), .ref (sa 2), .ref (sa 3), .ref (sa 4)]))], [(sa 1, .inr (16, [.int md, .ref d, .int (nI n)]))], [(sa 2, .inl (D.1 100, 7, .inl ln))], [(sa 3, .inl (D.1 100, 7, .inl wh))], [(sa 4, .inl (D.1 100, 7, .inl od))], [(d, .inl (D.1 104, 10, .inr (.inr (.inr (.inr (rF ra n))))))], T]) 0 0 2 [(0, .ref (sa 0)), (1, .int (nI r))] [] := by
    intro n2
    induction n2 with
    | zero => exact fun r hr hc hm2 => absurd hm2 (Nat.not_lt_zero _)
    | succ n2 ih2 =>
      intro r hr hc hm2
      refine z_iload_n (pc := 2) gX 1 dX2_comes_2 rfl rfl ?_
      refine z_aload_n (pc := 3) gX 0 dX2_comes_3 rfl rfl ?_
      refine z_cOV (pc := 4) gX (zI_ok gX hAX) [] [.int (nI r)] [0, 1] (met_X2_many l D B0 sa st sp tk wn md d n ) q847 q653 q654 q49 q655 (zm 0 rfl) (ci := 2) rfl rfl hd_X2_many ⟨rfl, rfl⟩ ⟨(Nat.le_of_ble_eq_true rfl), (Nat.le_of_ble_eq_true rfl)⟩ rfl rfl rfl (Nat.le_of_ble_eq_true rfl) ⟨(Nat.le_of_ble_eq_true rfl), (Nat.le_of_ble_eq_true rfl)⟩ dX2_comes_4 ?_
      intro _ hu4
      refine z_eq (lv₂ := [(0, .ref (sa 0)), (1, .int (nI r))]) (st₂ := [.int (nI n), .int (nI r)]) ?_ rfl rfl
      refine z_icmp_ge (pc := 7) gX 52 dX2_comes_7 (by decide) (fun c7 => ?_) (fun c7 => ?_)
      · skip
        have k7 : n ≤ r := (zn_le (a := n) (b := r) (by omega) (by omega)).mp c7
        exact z_vret gX hQX () trivial rfl (by rw [show comeW n (pkC st sp tk n ln wh kd) wh = wh by simp only [comeW, hc, show n - r = 0 by omega, fstF]]) (by first | decide | omega) (by first | decide | omega) dX2_comes_52
      · skip
        have k7 : r < n := (zn_nle (a := n) (b := r) (by omega) (by omega)).mp c7
        refine z_aload_n (pc := 10) gX 0 dX2_comes_10 rfl rfl ?_
        refine z_get (pc := 11) gX (zI_ok gX hAX) (zm 0 rfl) (ci := 2) (C := RX2) (T := TX2) (N := 8) rfl in_X2 6 (by decide) q167 (fun _ h => h) (v := .ref (sa 3)) rfl dX2_comes_11 ?_
        refine z_iload_n (pc := 14) gX 1 dX2_comes_14 rfl rfl ?_
        refine z_iald (pc := 15) gX (zI_ok gX hAX) (j := r) (n := 7) (f := wh) (zm 3 rfl) (by omega) (by decide) dX2_comes_15 ?_
        refine z_iconst (pc := 16) gX (-1) dX2_comes_16 (by decide) ?_
        refine z_icmp_ne (pc := 17) gX 46 dX2_comes_17 (by decide) (fun c17 => ?_) (fun c17 => ?_)
        · skip
          refine z_iinc (pc := 46) gX 1 (nI (r + 1)) [1, 0] [(0, .ref (sa 0)), (1, .int (nI (r + 1)))] dX2_comes_46 rfl (nI_1 _) (by decide) rfl ?_
          refine z_goto (pc := 49) gX 2 dX2_comes_49 (by decide) ?_
          exact ih2 (r + 1) (by omega) (by rw [hc, fst_s k7, if_neg (by simp only [mCand, pkC_wh (show r < 7 by omega)]; simp [c17])]) (by omega)
        · skip
          refine z_aload_n (pc := 20) gX 0 dX2_comes_20 rfl rfl ?_
          refine z_iload_n (pc := 21) gX 1 dX2_comes_21 rfl rfl ?_
          refine z_iconst (pc := 22) gX 0 dX2_comes_22 (by decide) ?_
          refine z_aload_n (pc := 23) gX 0 dX2_comes_23 rfl rfl ?_
          refine z_get (pc := 24) gX (zI_ok gX hAX) (zm 0 rfl) (ci := 2) (C := RX2) (T := TX2) (N := 8) rfl in_X2 5 (by decide) q161 (fun _ h => h) (v := .ref (sa 2)) rfl dX2_comes_24 ?_
          refine z_iload_n (pc := 27) gX 1 dX2_comes_27 rfl rfl ?_
          refine z_iald (pc := 28) gX (zI_ok gX hAX) (j := r) (n := 7) (f := ln) (zm 2 rfl) (by omega) (by decide) dX2_comes_28 ?_
          refine z_cOV (pc := 29) gX (zI_ok gX hAX) [.int (nI r), .int 0, .int (ln r)] [] [0, 1, 2, 3, 4, 5, 6] (met_X2_isFree l D B0 sa st sp tk wn md d n ln wh od ra kd T r 0 (ln r) (by first | assumption | omega) (by first | assumption | omega) (by first | assumption | omega) (by first | assumption | omega) (hl r (by omega))) q868 q869 q870 q49 q871 (zm 0 rfl) (ci := 2) rfl rfl hd_X2_isFree ⟨rfl, rfl⟩ ⟨(Nat.le_of_ble_eq_true rfl), (Nat.le_of_ble_eq_true rfl)⟩ rfl rfl rfl (Nat.le_of_ble_eq_true rfl) ⟨(Nat.le_of_ble_eq_true rfl), (Nat.le_of_ble_eq_true rfl)⟩ dX2_comes_29 ?_
          intro _ hu29
          refine z_eq (lv₂ := [(0, .ref (sa 0)), (1, .int (nI r))]) (st₂ := [.int (bI (mFreeTo (pkC st sp tk n ln wh kd) r 0 (ln r) n))]) ?_ rfl rfl
          refine z_if_ne (pc := 32) gX 38 dX2_comes_32 (by decide) (fun c32 => ?_) (fun c32 => ?_)
          · skip
            have k32 : (mFreeTo (pkC st sp tk n ln wh kd) r 0 (ln r) n) = true := bI_ne0 c32
            refine z_aload_n (pc := 38) gX 0 dX2_comes_38 rfl rfl ?_
            refine z_get (pc := 39) gX (zI_ok gX hAX) (zm 0 rfl) (ci := 2) (C := RX2) (T := TX2) (N := 8) rfl in_X2 6 (by decide) q167 (fun _ h => h) (v := .ref (sa 3)) rfl dX2_comes_39 ?_
            refine z_iload_n (pc := 42) gX 1 dX2_comes_42 rfl rfl ?_
            refine z_iconst (pc := 43) gX 0 dX2_comes_43 (by decide) ?_
            refine z_iast (pc := 44) gX hAX 3 (j := r) (n := 7) (f := wh) rfl (by omega) (by decide) [[(sa 0, .inr (2, [.int st, .int sp, .int tk, .int wn, .ref (sa 1), .ref (sa 2), .ref (sa 3), .ref (sa 4)]))], [(sa 1, .inr (16, [.int md, .ref d, .int (nI n)]))], [(sa 2, .inl (D.1 100, 7, .inl ln))], [(sa 3, .inl (D.1 100, 7, .inl (upd wh r 0)))], [(sa 4, .inl (D.1 100, 7, .inl od))], [(d, .inl (D.1 104, 10, .inr (.inr (.inr (.inr (rF ra n))))))], T] rfl dX2_comes_44 ?_
            exact z_vret gX hQX () trivial rfl (by rw [show comeW n (pkC st sp tk n ln wh kd) wh = upd wh r 0 by simp only [comeW, hc, fst_s k7]; rw [if_pos (by simp only [mCand, pkC_wh (show r < 7 by omega), pkC_ln (show r < 7 by omega)]; simp [c17, k32])]]) (by first | decide | omega) (by first | decide | omega) dX2_comes_45
          · skip
            have k32 : (mFreeTo (pkC st sp tk n ln wh kd) r 0 (ln r) n) = false := bI_eq0 c32
            refine z_goto (pc := 35) gX 46 dX2_comes_35 (by decide) ?_
            refine z_iinc (pc := 46) gX 1 (nI (r + 1)) [1, 0] [(0, .ref (sa 0)), (1, .int (nI (r + 1)))] dX2_comes_46 rfl (nI_1 _) (by decide) rfl ?_
            refine z_goto (pc := 49) gX 2 dX2_comes_49 (by decide) ?_
            exact ih2 (r + 1) (by omega) (by rw [hc, fst_s k7, if_neg (by simp only [mCand, pkC_wh (show r < 7 by omega), pkC_ln (show r < 7 by omega)]; simp [k32])]) (by omega)
  exact L2 ((n - 0) + 1) 0 (by omega) rfl (Nat.lt_succ_self _)
theorem hd_X2_comes : zHd yX2_comes 0 := by unfold zHd; decide +kernel

