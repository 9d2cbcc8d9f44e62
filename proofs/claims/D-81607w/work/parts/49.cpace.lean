set_option maxRecDepth 100000
/-! pace: speeds by own recursion -/
theorem dg_pre {nn a m P code i : Nat} (ham : a + m = nn) (hi : i < a) (hc : code / 3 ^ m = P) : dg nn code i = dg a P i := by
  unfold dg
  rw [← hc, Nat.div_div_eq_div_mul, ← Nat.pow_add, show m + (a - 1 - i) = nn - 1 - i by omega]
theorem rnS_pre {nn a m P code : Nat} (ham : a + m = nn) (hc : code / 3 ^ m = P) : ∀ b, b ≤ a → rnS nn code b = rnS a P b
  | 0, _ => rfl
  | b + 1, h => by
    simp only [rnS]
    rw [rnS_pre ham hc b (by omega), dg_pre ham (by omega) hc]
theorem rnS_mono {nn code : Nat} {a : Nat} : ∀ b, a ≤ b → rnS nn code a ≤ rnS nn code b
  | 0, h => by rw [show a = 0 by omega]; exact Nat.le_refl _
  | b + 1, h => by
    rcases (show a ≤ b ∨ a = b + 1 by omega) with e | e
    · have := rnS_mono (nn := nn) (code := code) b e
      simp only [rnS]; omega
    · rw [e]; exact Nat.le_refl _
theorem div3 {P v : Nat} (hv : v < 3) : (3 * P + v) / 3 ^ 1 = P := by rw [Nat.pow_one]; omega
theorem dg_lo {a P v i : Nat} (hv : v < 3) (hi : i < a) : dg (a + 1) (3 * P + v) i = dg a P i := dg_pre (m := 1) rfl hi (div3 hv)
theorem dg_at {a P v : Nat} (hv : v < 3) : dg (a + 1) (3 * P + v) a = v := by
  unfold dg
  rw [show a + 1 - 1 - a = 0 by omega, Nat.pow_zero, Nat.div_one]; omega
theorem rnS_s {a P v : Nat} (hv : v < 3) : rnS (a + 1) (3 * P + v) (a + 1) = rnS a P a + v := by
  simp only [rnS]
  rw [rnS_pre (m := 1) rfl (div3 hv) a (Nat.le_refl a), dg_at hv]
theorem pcP_form {n k : Nat} {c : Nat → Int32} {j nn : Nat} (hn : nn ≤ 6) : ∀ q, pcP n k c j nn q = (-1000000, 99) ∨ ∃ f s, f < q ∧ s ≤ 12 ∧ pcP n k c j nn q = (nI f, nI s)
  | 0 => Or.inl rfl
  | q + 1 => by
    simp only [pcP, pcS]
    split
    · have := rnS_le nn q nn
      exact Or.inr ⟨q, rnS nn q nn, by omega, by omega, rfl⟩
    · rcases pcP_form (n := n) (k := k) (c := c) (j := j) hn q with h | ⟨f, s, h1, h2, h3⟩
      · exact Or.inl h
      · exact Or.inr ⟨f, s, by omega, h2, h3⟩
theorem pc_skip {n k : Nat} {c : Nat → Int32} {j nn a : Nat} : ∀ b, a ≤ b → (∀ code, a ≤ code → code < b → ¬ nI (rnS nn code nn) < (pcP n k c j nn a).2) → pcP n k c j nn b = pcP n k c j nn a
  | 0, h, _ => by rw [show a = 0 by omega]
  | b + 1, h, H => by
    rcases (show a ≤ b ∨ a = b + 1 by omega) with e | e
    · have ih := pc_skip b e (fun code h1 h2 => H code h1 (by omega))
      simp only [pcP, pcS]
      rw [ih, if_neg (fun z => H b e (by omega) z.2)]
    · rw [e]
def pcT (a P : Nat) (tf : Nat → Int32) : Prop := ∀ i, i < a → tf i = nI (dg a P i)
def pcR (n k : Nat) (c : Nat → Int32) (j nn q : Nat) (lt : Int32) (bf : Nat → Int32) : Prop := lt = (if (pcP n k c j nn q).1 = -1000000 then -1000000 else (pcP n k c j nn q).2) ∧ ∀ f, f < 729 → (pcP n k c j nn q).1 = nI f → ∀ i, i < nn → bf i = nI (dg nn f i)
theorem pcT_s {a P v : Nat} {tf : Nat → Int32} (h : pcT a P tf) (hv : v < 3) : pcT (a + 1) (3 * P + v) (upd tf a (nI v)) := by
  intro i hi
  by_cases e : i = a
  · rw [e, pk_us, dg_at hv]
  · rw [pk_un (by omega), dg_lo hv (by omega)]; exact h i (by omega)
theorem pcT_p {a P v : Nat} {tf : Nat → Int32} (h : pcT (a + 1) (3 * P + v) tf) (hv : v < 3) : pcT a P tf := fun i hi => by rw [h i (by omega), dg_lo hv hi]
section PC
variable {n k : Nat} {c : Nat → Int32} {j nn P m M a q : Nat} {lt : Int32} {bf : Nat → Int32}
theorem ne729 : ∀ f : Nat, f < 729 → ¬ nI f = -1000000 := by decide +kernel
theorem pcR_some (hn : nn ≤ 6) (hq : q ≤ 729) (h : pcR n k c j nn q lt bf) (h1 : ¬ lt = -1000000) : ∃ f s, f < q ∧ s ≤ 12 ∧ pcP n k c j nn q = (nI f, nI s) ∧ lt = nI s := by
  rcases pcP_form (n := n) (k := k) (c := c) (j := j) hn q with e | ⟨f, s, e1, e2, e3⟩
  · have := h.1; rw [e] at this; exact absurd this h1
  · refine ⟨f, s, e1, e2, e3, ?_⟩
    have := h.1
    rw [e3, if_neg (ne729 f (by omega))] at this
    exact this
theorem pcR_none (hn : nn ≤ 6) (hq : q ≤ 729) (h : pcR n k c j nn q lt bf) (h1 : lt = -1000000) : pcP n k c j nn q = (-1000000, 99) := by
  rcases pcP_form (n := n) (k := k) (c := c) (j := j) hn q with e | ⟨f, s, e1, e2, e3⟩
  · exact e
  · have := h.1
    rw [e3, if_neg (ne729 f (by omega))] at this
    exact absurd (this.symm.trans h1) (ne729 s (by omega))
theorem pcR_0 : pcR n k c j nn (0 * M) (-1000000) bf := by
  rw [Nat.zero_mul]
  refine ⟨rfl, fun f hf h => ?_⟩
  exact absurd h.symm (ne729 f hf)
theorem rng {P M : Nat} : P * M ≤ (P + 1) * M := Nat.mul_le_mul_right M (by omega)
theorem rng2 {P M code : Nat} (h1 : P * M ≤ code) (h2 : code < (P + 1) * M) : code / M = P := by
  have hM : 0 < M := by rcases Nat.eq_zero_or_pos M with h | h; rw [h, Nat.mul_zero] at h2; omega; exact h
  exact Nat.div_eq_of_lt_le h1 h2
theorem topq {a m nn P : Nat} (ham : a + m = nn) (hn : nn ≤ 6) (hP : P < 3 ^ a) : (P + 1) * 3 ^ m ≤ 729 := by
  have h1 : (P + 1) * 3 ^ m ≤ 3 ^ a * 3 ^ m := Nat.mul_le_mul_right _ hP
  rw [← Nat.pow_add, ham] at h1
  exact Nat.le_trans h1 (pow3 hn)
theorem pc_cut (ham : a + m = nn) (hM : M = 3 ^ m) (hn : nn ≤ 6) (hP : P < 3 ^ a) (h : pcR n k c j nn (P * M) lt bf) (h1 : ¬ lt = -1000000) (h2 : ¬ nI (rnS a P a) < lt) : pcR n k c j nn ((P + 1) * M) lt bf := by
  subst hM
  have hq := topq ham hn hP
  obtain ⟨f, s, e1, e2, e3, e4⟩ := pcR_some hn (Nat.le_trans rng hq) h h1
  have hs : pcP n k c j nn ((P + 1) * 3 ^ m) = pcP n k c j nn (P * 3 ^ m) := by
    refine pc_skip _ rng (fun code hc1 hc2 hlt => h2 ?_)
    rw [e3] at hlt
    rw [e4]
    have hp := rnS_pre ham (rng2 hc1 hc2) a (Nat.le_refl a)
    have hm := rnS_mono (nn := nn) (code := code) (a := a) nn (by omega)
    have hl := rnS_le nn code nn
    have := (zn_lt (a := rnS nn code nn) (b := s) (by omega) (by omega)).mp hlt
    exact (zn_lt (a := rnS a P a) (b := s) (by omega) (by omega)).mpr (by omega)
  unfold pcR
  rw [hs]
  exact h
theorem pc_no (h : pcR n k c j nn (P * 1) lt bf) (h1 : ¬ rnC n k c nn P nn (2 + j) = 99) : pcR n k c j nn ((P + 1) * 1) lt bf := by
  rw [Nat.mul_one] at h ⊢
  unfold pcR
  rw [show pcP n k c j nn (P + 1) = pcP n k c j nn P by simp only [pcP, pcS]; rw [if_neg (fun z => h1 z.1)]]
  exact h
theorem pc_yes {bf1 tf : Nat → Int32} (hn : nn ≤ 6) (hP : P < 3 ^ nn) (h : pcR n k c j nn (P * 1) lt bf) (h1 : rnC n k c nn P nn (2 + j) = 99) (h2 : lt = -1000000 ∨ nI (rnS nn P nn) < lt) (hT : pcT nn P tf) (hb : ∀ i, i < nn → bf1 i = tf i) : pcR n k c j nn ((P + 1) * 1) (nI (rnS nn P nn)) bf1 := by
  rw [Nat.mul_one] at h ⊢
  have h3 := pow3 hn
  have hl := rnS_le nn P nn
  have hlt : nI (rnS nn P nn) < (pcP n k c j nn P).2 := by
    by_cases e : lt = -1000000
    · rw [pcR_none hn (by omega) h e]
      exact (zn_lt (a := rnS nn P nn) (b := 99) (by omega) (by omega)).mpr (by omega)
    · obtain ⟨f, s, e1, e2, e3, e4⟩ := pcR_some hn (by omega) h e
      rw [e3]
      rcases h2 with h2 | h2
      · exact absurd h2 e
      · rw [e4] at h2; exact h2
  have hs : pcP n k c j nn (P + 1) = (nI P, nI (rnS nn P nn)) := by
    simp only [pcP, pcS]
    rw [if_pos ⟨h1, hlt⟩]
  unfold pcR
  rw [hs]
  refine ⟨by rw [if_neg (ne729 P (by omega))], fun f hf he i hi => ?_⟩
  have : P = f := (zn_eq (a := P) (b := f) (by omega) (by omega)).mp he
  rw [hb i hi, hT i hi, this]
theorem cl2 {z : Nat} (h : z ≤ 729) : (nI z).toNatClampNeg = z := nI_clamp (show z < 2 ^ 31 by omega)
theorem pace_none {x : Int32} (hj : j ≤ 7) (hn : nn ≤ 6) (k5 : mIn (nI j) 0 (c 17 - 1) = true) (k17 : mIn (nI nn) 1 6 = true) (h : pcR n k c j nn (3 ^ nn) lt bf) (hx : -1 ≤ x) (h1 : lt = -1000000 ∨ nI nn ≤ x) : mPace n k c (nI j) (nI nn) x = -1000000 := by
  have h3 := pow3 hn
  simp only [mPace, k5, k17, decide_eq_true hx, Bool.and_self, if_true, cl2 (show j ≤ 729 by omega), cl2 (show nn ≤ 729 by omega)]
  rw [if_pos]
  rcases h1 with h1 | h1
  · rw [pcR_none hn h3 h h1]; exact Or.inl rfl
  · exact Or.inr h1
theorem pace_least (hj : j ≤ 7) (hn : nn ≤ 6) (k5 : mIn (nI j) 0 (c 17 - 1) = true) (k17 : mIn (nI nn) 1 6 = true) (h : pcR n k c j nn (3 ^ nn) lt bf) (h1 : ¬ lt = -1000000) (h2 : -1 < nI nn) : mPace n k c (nI j) (nI nn) (-1) = lt := by
  have h3 := pow3 hn
  obtain ⟨f, s, e1, e2, e3, e4⟩ := pcR_some hn h3 h h1
  simp only [mPace, k5, k17, Int32.le_refl, decide_true, Bool.and_self, if_true, cl2 (show j ≤ 729 by omega), cl2 (show nn ≤ 729 by omega)]
  rw [if_neg, e3, e4]
  rintro (z | z)
  · rw [e3] at z; exact ne729 f (by omega) z
  · exact absurd h2 (Int32.not_lt.mpr z)
theorem pace_dig {r : Nat} (hj : j ≤ 7) (hn : nn ≤ 6) (k5 : mIn (nI j) 0 (c 17 - 1) = true) (k17 : mIn (nI nn) 1 6 = true) (h : pcR n k c j nn (3 ^ nn) lt bf) (h1 : ¬ lt = -1000000) (hr : r < nn) : mPace n k c (nI j) (nI nn) (nI r) = bf r := by
  have h3 := pow3 hn
  obtain ⟨f, s, e1, e2, e3, e4⟩ := pcR_some hn h3 h h1
  have hr0 : ¬ nI r < 0 := nI_pos (by omega)
  have hm1 : decide (-1 ≤ nI r) = true := decide_eq_true (Int32.le_trans (by decide) (Int32.not_lt.mp hr0))
  simp only [mPace, k5, k17, hm1, Bool.and_self, if_true, cl2 (show j ≤ 729 by omega), cl2 (show nn ≤ 729 by omega), cl2 (show r ≤ 729 by omega)]
  rw [if_neg, if_neg (fun z => hr0 (by rw [z]; decide)), e3, cl2 (show f ≤ 729 by omega)]
  · exact (h.2 f (by omega) (by rw [e3]) r hr).symm
  · rintro (z | z)
    · rw [e3] at z; exact ne729 f (by omega) z
    · exact absurd ((zn_le (a := nn) (b := r) (by omega) (by omega)).mp z) (by omega)
end PC

set_option maxHeartbeats 4000000 in
theorem met_pacesR_0 (l : Launch) (D : va_G) (B0 : Nat) (A : Nat → Prop) (o : Nat) (ad : Nat → Nat) (sa : Nat → Nat) (sb : Nat → Nat) (tr : Nat) (x : Nat → Int32) (wn : Int32) (md : Int32) (d : Nat) (n : Nat) (c : Nat → Int32) (od : Nat → Int32) (ra : Nat → Nat) (T : va_W) (k : Nat) (ht : sT) (tf : Nat → Int32) (bf : Nat → Int32) (j : Nat) (nn : Nat) (P : Nat) (at_ : Nat) (sm : Nat) (hG : gOK T n k ra c) (ht0 : tOK ht) (hj : j < n) (hnn : nn ≤ 6) (ham : at_ + 0 = nn) (hP : P < 3 ^ at_) (hsm : sm = rnS at_ P at_) (hT : pcT at_ P tf) (hR : pcR n k c j nn (P * 1) (x 4) bf) : Met l yX0_pacesFrom (ws_ yX0_pacesFrom cX0_pacesFrom 6 none) (zRm 10 1 10) (va_Pc [.ref o, .int (nI at_), .int (nI sm), .int (nI j), .int (nI nn)] (zPre B0 D A [cOb o ad (sa 0) (sb 0) tr x, [(ad 4, .inl (D.1 100, 6, .inl tf))], [(ad 5, .inl (D.1 100, 6, .inl bf))], [(sa 0, .inr (2, [.int (c 16), .int (c 1), .int (c 0), .int wn, .ref (sa 1), .ref (sa 2), .ref (sa 3), .ref (sa 4)]))], [(sa 1, .inr (16, [.int md, .ref d, .int (nI n)]))], [(sa 2, .inl (D.1 100, 7, .inl (fun i_ => c (9 + i_))))], [(sa 3, .inl (D.1 100, 7, .inl (fun i_ => c (2 + i_))))], [(sa 4, .inl (D.1 100, 7, .inl od))], [(d, .inl (D.1 104, 10, .inr (.inr (.inr (.inr (rF ra n))))))], thP D sb ht, T])) (zQ (S := (Nat → Int32) × (Nat → Int32) × Int32 × sT) (fun u => (fun (tf1 : Nat → Int32) (bf1 : Nat → Int32) (l1 : Int32) (ht1 : sT) => pcT at_ P tf1 ∧ pcR n k c j nn ((P + 1) * 1) l1 bf1 ∧ tOK ht1) u.1 u.2.1 u.2.2.1 u.2.2.2) (fun u => (fun (tf1 : Nat → Int32) (bf1 : Nat → Int32) (l1 : Int32) (ht1 : sT) => none) u.1 u.2.1 u.2.2.1 u.2.2.2) (fun u => (fun (tf1 : Nat → Int32) (bf1 : Nat → Int32) (l1 : Int32) (ht1 : sT) => [cOb o ad (sa 0) (sb 0) tr (upd x 4 l1), [(ad 4, .inl (D.1 100, 6, .inl tf1))], [(ad 5, .inl (D.1 100, 6, .inl bf1))], [(sa 0, .inr (2, [.int (c 16), .int (c 1), .int (c 0), .int wn, .ref (sa 1), .ref (sa 2), .ref (sa 3), .ref (sa 4)]))], [(sa 1, .inr (16, [.int md, .ref d, .int (nI n)]))], [(sa 2, .inl (D.1 100, 7, .inl (fun i_ => c (9 + i_))))], [(sa 3, .inl (D.1 100, 7, .inl (fun i_ => c (2 + i_))))], [(sa 4, .inl (D.1 100, 7, .inl od))], [(d, .inl (D.1 104, 10, .inr (.inr (.inr (.inr (rF ra n))))))], thP D sb ht1, T]) u.1 u.2.1 u.2.2.1 u.2.2.2) D A) 1 10 A := by
  refine z_entry (by decide +kernel) (Nat.le_of_ble_eq_true rfl) (fun pX eX sX mX argsX blX mtX cX QX hQX gX hAX hnm => ?_)
  refine z_eq (lv₂ := [(0, .ref o), (1, .int (nI at_)), (2, .int (nI sm)), (3, .int (nI j)), (4, .int (nI nn))]) (st₂ := []) ?_ rfl rfl
  have hK := hG.k
  have hn7 := hG.2.1
  have hsl : sm ≤ 12 := by have := rnS_le at_ P at_; omega
  have ha : at_ = nn := by omega
  have hT2 : pcT nn P tf := ha ▸ hT
  have hP2 : P < 3 ^ nn := ha ▸ hP
  have hsm2 : sm = rnS nn P nn := ha ▸ hsm
  refine z_aload_n (pc := 0) gX 0 dX0_pacesFrom_0 rfl rfl ?_
  refine z_get (pc := 1) gX (zI_ok gX hAX) (zm 0 rfl) (ci := 0) (C := RX0) (T := TX0) (N := 14) rfl in_X0 13 (by decide) q222 (fun _ h => h) (v := .int (x 4)) rfl dX0_pacesFrom_1 ?_
  refine z_ldc (pc := 4) gX q1003 dX0_pacesFrom_4 ?_
  refine z_icmp_eq (pc := 6) gX 18 dX0_pacesFrom_6 (by decide) (fun c6 => ?_) (fun c6 => ?_)
  · skip
    refine z_iload_n (pc := 18) gX 1 dX0_pacesFrom_18 rfl rfl ?_
    refine z_iload (pc := 19) gX 4 dX0_pacesFrom_19 rfl ?_
    refine z_icmp_ge (pc := 21) gX 62 dX0_pacesFrom_21 (by decide) (fun c21 => ?_) (fun c21 => ?_)
    · skip
      have k21 : nn ≤ at_ := (zn_le (a := nn) (b := at_) (by omega) (by omega)).mp c21
      refine z_aload_n (pc := 62) gX 0 dX0_pacesFrom_62 rfl rfl ?_
      refine z_cMV (pc := 63) gX hAX [] [] [0, 3, 4, 5, 6, 7, 8, 9, 10] [1, 2] (fun A1 => met_X0_asNow l D B0 A1 o ad sa sb tr x wn md d n c od ra T k ht hG ht0) q986 q988 qs23 q47 q989 (zm 0 rfl) (ci := 0) rfl rfl hd_X0_asNow ⟨rfl, rfl⟩ ⟨(Nat.le_of_ble_eq_true rfl), (Nat.le_of_ble_eq_true rfl)⟩ rfl rfl (zpl 11 rfl (by decide +kernel)) rfl rfl (Nat.le_of_ble_eq_true rfl) ⟨(Nat.le_of_ble_eq_true rfl), (Nat.le_of_ble_eq_true rfl)⟩ dX0_pacesFrom_63 ?_
      intro u63 hu63
      obtain ⟨zmd_63, zd_63, zod_63⟩ := u63
      refine z_re [0, 14, 15, 1, 2, 3, 4, 5, 6, 7, 9, 10, 11, 12, 13, 8] [cOb o ad (sa 0) (sb 0) tr x, [(ad 4, .inl (D.1 100, 6, .inl tf))], [(ad 5, .inl (D.1 100, 6, .inl bf))], [(sa 0, .inr (2, [.int (c 16), .int (c 1), .int (c 0), .int wn, .ref (sa 1), .ref (sa 2), .ref (sa 3), .ref (sa 4)]))], [(sa 1, .inr (16, [.int md, .ref d, .int (nI n)]))], [(sa 2, .inl (D.1 100, 7, .inl (fun i_ => c (9 + i_))))], [(sa 3, .inl (D.1 100, 7, .inl (fun i_ => c (2 + i_))))], [(sa 4, .inl (D.1 100, 7, .inl od))], [(d, .inl (D.1 104, 10, .inr (.inr (.inr (.inr (rF ra n))))))], [(sb 0, .inr (2, [.int (c 16), .int (c 1), .int (c 0), .int wn, .ref (sb 1), .ref (sb 2), .ref (sb 3), .ref (sb 4)]))], [(sb 1, .inr (16, [.int zmd_63, .ref zd_63, .int (nI n)]))], [(sb 2, .inl (D.1 100, 7, .inl (fun i_ => c (9 + i_))))], [(sb 3, .inl (D.1 100, 7, .inl (fun i_ => c (2 + i_))))], [(sb 4, .inl (D.1 100, 7, .inl zod_63))], [(zd_63, .inl (D.1 104, 10, .inr (.inr (.inr (.inr (rF ra n))))))], T] rfl (zpl 16 rfl (by decide +kernel)) ?_
      refine z_norm [cOb o ad (sa 0) (sb 0) tr x, [(ad 4, .inl (D.1 100, 6, .inl tf))], [(ad 5, .inl (D.1 100, 6, .inl bf))], [(sa 0, .inr (2, [.int (c 16), .int (c 1), .int (c 0), .int wn, .ref (sa 1), .ref (sa 2), .ref (sa 3), .ref (sa 4)]))], [(sa 1, .inr (16, [.int md, .ref d, .int (nI n)]))], [(sa 2, .inl (D.1 100, 7, .inl (fun i_ => c (9 + i_))))], [(sa 3, .inl (D.1 100, 7, .inl (fun i_ => c (2 + i_))))], [(sa 4, .inl (D.1 100, 7, .inl od))], [(d, .inl (D.1 104, 10, .inr (.inr (.inr (.inr (rF ra n))))))], [(sb 0, .inr (2, [.int (c 16), .int (c 1), .int (c 0), .int wn, .ref (sb 1), .ref (sb 2), .ref (sb 3), .ref (sb 4)]))], [(sb 1, .inr (16, [.int zmd_63, .ref zd_63, .int (nI n)]))], [(sb 2, .inl (D.1 100, 7, .inl (fun i_ => c (9 + i_))))], [(sb 3, .inl (D.1 100, 7, .inl (fun i_ => c (2 + i_))))], [(sb 4, .inl (D.1 100, 7, .inl zod_63))], [(zd_63, .inl (D.1 104, 10, .inr (.inr (.inr (.inr (rF ra n))))))], T] 1 10 ?_ rfl rfl rfl
      refine z_eq (lv₂ := [(0, .ref o), (1, .int (nI at_)), (2, .int (nI sm)), (3, .int (nI j)), (4, .int (nI nn))]) (st₂ := [.ref (sb 0)]) ?_ rfl rfl
      refine z_pop (pc := 66) gX dX0_pacesFrom_66 rfl ?_
      refine z_iconst (pc := 67) gX 0 dX0_pacesFrom_67 (by decide) ?_
      refine z_istore (pc := 68) gX [1, 2, 3, 4, 5, 0] [(0, .ref o), (1, .int (nI at_)), (2, .int (nI sm)), (3, .int (nI j)), (4, .int (nI nn)), (5, .int 0)] dX0_pacesFrom_68 (by decide) rfl ?_
      have L70 : ∀ (n70 : Nat) (i : Nat) (c1 : Nat → Int32) (od1 : Nat → Int32) (wn1 : Int32), (i ≤ nn) → (kOK T n k ra c1) → (c1 = rnC n k c nn P i) → nn - i < n70 → zJ pX l eX (zRm 10 1 10) sX mX argsX blX mtX cX QX 6 (zI D A sX [cOb o ad (sa 0) (sb 0) tr x, [(ad 4, .inl (D.1 100, 6, .inl tf))], [(ad 5, .inl (D.1 100, 6, .inl bf))], [(sa 0, .inr (2, [.int (c 16), .int (c 1), .int (c 0), .int wn, .ref (sa 1), .ref (sa 2), .ref (sa 3), .ref (sa 4)]))], [(sa 1, .inr (16, [.int md, .ref d, .int (nI n)]))], [(sa 2, .inl (D.1 100, 7, .inl (fun i_ => c (9 + i_))))], [(sa 3, .inl (D.1 100, 7, .inl (fun i_ => c (2 + i_))))], [(sa 4, .inl (D.1 100, 7, .inl od))], [(d, .inl (D.1 104, 10, .inr (.inr (.inr (.inr (rF ra n))))))], [(sb 0, .inr (2, [.int (c1 16), .int (c1 1), .int (c1 0), .int wn1, .ref (sb 1), .ref (sb 2), .ref (sb 3), .ref (sb 4)]))], [(sb 1, .inr (16, [.int zmd_63, .ref zd_63, .int (nI n)]))], [(sb 2, .inl (D.1 100, 7, .inl (fun i_ => c1 (9 + i_))))], [(sb 3, .inl (D.1 100, 7, .inl (fun i_ => c1 (2 + i_))))], [(sb 4, .inl (D.1 100, 7, .inl od1))], [(zd_63, .inl (D.1 104, 10, .inr (.inr (.inr (.inr (rF ra n))))))], T]) 1 10 70 [(0, .ref o), (1, .int (nI at_)), (2, .int (nI sm)), (3, .int (nI j)), (4, .int (nI nn)), (5, .int (nI i))] [] := by
        intro n70
        induction n70 with
        | zero => exact fun i c1 od1 wn1 hi hK1 hc1 hm70 => absurd hm70 (Nat.not_lt_zero _)
        | succ n70 ih70 =>
          intro i c1 od1 wn1 hi hK1 hc1 hm70
          refine z_iload (pc := 70) gX 5 dX0_pacesFrom_70 rfl ?_
          refine z_iload (pc := 72) gX 4 dX0_pacesFrom_72 rfl ?_
          refine z_icmp_ge (pc := 74) gX 105 dX0_pacesFrom_74 (by decide) (fun c74 => ?_) (fun c74 => ?_)
          · skip
            have k74 : nn ≤ i := (zn_le (a := nn) (b := i) (by omega) (by omega)).mp c74
            refine z_aload_n (pc := 105) gX 0 dX0_pacesFrom_105 rfl rfl ?_
            refine z_get (pc := 106) gX (zI_ok gX hAX) (zm 0 rfl) (ci := 0) (C := RX0) (T := TX0) (N := 14) rfl in_X0 5 (by decide) q214 (fun _ h => h) (v := .ref (sb 0)) rfl dX0_pacesFrom_106 ?_
            refine z_get (pc := 109) gX (zI_ok gX hAX) (zm 9 rfl) (ci := 2) (C := RX2) (T := TX2) (N := 8) rfl in_X2 6 (by decide) q171 (fun _ h => h) (v := .ref (sb 3)) rfl dX0_pacesFrom_109 ?_
            refine z_iload_n (pc := 112) gX 3 dX0_pacesFrom_112 rfl rfl ?_
            refine z_iald (pc := 113) gX (zI_ok gX hAX) (j := j) (n := 7) (f := (fun i_ => c1 (2 + i_))) (zm 12 rfl) (by omega) (by decide) dX0_pacesFrom_113 ?_
            refine z_top (c1 (2 + j)) rfl ?_
            refine z_bipush (pc := 114) gX 99 dX0_pacesFrom_114 (by decide) ?_
            refine z_icmp_eq (pc := 116) gX 120 dX0_pacesFrom_116 (by decide) (fun c116 => ?_) (fun c116 => ?_)
            · skip
              refine z_aload_n (pc := 120) gX 0 dX0_pacesFrom_120 rfl rfl ?_
              refine z_iload_n (pc := 121) gX 2 dX0_pacesFrom_121 rfl rfl ?_
              refine z_put (pc := 122) gX hAX 0 rfl (ci := 0) (C := RX0) (T := TX0) (N := 14) rfl in_X0 tyX0 tyX0_ok nmX0 13 (by decide) q222 (fun _ h => h) rfl (v := .int (nI sm)) rfl rfl (Nat.le_of_ble_eq_true rfl) [cOb o ad (sa 0) (sb 0) tr (upd x 4 (nI sm)), [(ad 4, .inl (D.1 100, 6, .inl tf))], [(ad 5, .inl (D.1 100, 6, .inl bf))], [(sa 0, .inr (2, [.int (c 16), .int (c 1), .int (c 0), .int wn, .ref (sa 1), .ref (sa 2), .ref (sa 3), .ref (sa 4)]))], [(sa 1, .inr (16, [.int md, .ref d, .int (nI n)]))], [(sa 2, .inl (D.1 100, 7, .inl (fun i_ => c (9 + i_))))], [(sa 3, .inl (D.1 100, 7, .inl (fun i_ => c (2 + i_))))], [(sa 4, .inl (D.1 100, 7, .inl od))], [(d, .inl (D.1 104, 10, .inr (.inr (.inr (.inr (rF ra n))))))], [(sb 0, .inr (2, [.int (c1 16), .int (c1 1), .int (c1 0), .int wn1, .ref (sb 1), .ref (sb 2), .ref (sb 3), .ref (sb 4)]))], [(sb 1, .inr (16, [.int zmd_63, .ref zd_63, .int (nI n)]))], [(sb 2, .inl (D.1 100, 7, .inl (fun i_ => c1 (9 + i_))))], [(sb 3, .inl (D.1 100, 7, .inl (fun i_ => c1 (2 + i_))))], [(sb 4, .inl (D.1 100, 7, .inl od1))], [(zd_63, .inl (D.1 104, 10, .inr (.inr (.inr (.inr (rF ra n))))))], T] rfl dX0_pacesFrom_122 ?_
              refine z_aload_n (pc := 125) gX 0 dX0_pacesFrom_125 rfl rfl ?_
              refine z_get (pc := 126) gX (zI_ok gX hAX) (zm 0 rfl) (ci := 0) (C := RX0) (T := TX0) (N := 14) rfl in_X0 11 (by decide) q220 (fun _ h => h) (v := .ref (ad 4)) rfl dX0_pacesFrom_126 ?_
              refine z_iconst (pc := 129) gX 0 dX0_pacesFrom_129 (by decide) ?_
              refine z_aload_n (pc := 130) gX 0 dX0_pacesFrom_130 rfl rfl ?_
              refine z_get (pc := 131) gX (zI_ok gX hAX) (zm 0 rfl) (ci := 0) (C := RX0) (T := TX0) (N := 14) rfl in_X0 12 (by decide) q221 (fun _ h => h) (v := .ref (ad 5)) rfl dX0_pacesFrom_131 ?_
              refine z_iconst (pc := 134) gX 0 dX0_pacesFrom_134 (by decide) ?_
              refine z_iload (pc := 135) gX 4 dX0_pacesFrom_135 rfl ?_
              refine z_eq (lv₂ := [(0, .ref o), (1, .int (nI at_)), (2, .int (nI sm)), (3, .int (nI j)), (4, .int (nI nn)), (5, .int (nI i))]) (st₂ := .int (nI nn) :: .int (nI 0) :: .ref (ad 5) :: .int (nI 0) :: .ref (ad 4) :: []) ?_ rfl rfl
              refine z_copyi (pc := 137) gX hAX ⟨q442, q444, q443, q64⟩ 1 2 0 rfl rfl rfl rfl (by omega) (by omega) (by omega) (fun _ _ => rfl) (Nat.le_of_ble_eq_true rfl) (Nat.le_of_ble_eq_true rfl) [cOb o ad (sa 0) (sb 0) tr (upd x 4 (nI sm)), [(ad 4, .inl (D.1 100, 6, .inl tf))], [(ad 5, .inl (D.1 100, 6, .inl (va_cpy tf bf 0 0 nn)))], [(sa 0, .inr (2, [.int (c 16), .int (c 1), .int (c 0), .int wn, .ref (sa 1), .ref (sa 2), .ref (sa 3), .ref (sa 4)]))], [(sa 1, .inr (16, [.int md, .ref d, .int (nI n)]))], [(sa 2, .inl (D.1 100, 7, .inl (fun i_ => c (9 + i_))))], [(sa 3, .inl (D.1 100, 7, .inl (fun i_ => c (2 + i_))))], [(sa 4, .inl (D.1 100, 7, .inl od))], [(d, .inl (D.1 104, 10, .inr (.inr (.inr (.inr (rF ra n))))))], [(sb 0, .inr (2, [.int (c1 16), .int (c1 1), .int (c1 0), .int wn1, .ref (sb 1), .ref (sb 2), .ref (sb 3), .ref (sb 4)]))], [(sb 1, .inr (16, [.int zmd_63, .ref zd_63, .int (nI n)]))], [(sb 2, .inl (D.1 100, 7, .inl (fun i_ => c1 (9 + i_))))], [(sb 3, .inl (D.1 100, 7, .inl (fun i_ => c1 (2 + i_))))], [(sb 4, .inl (D.1 100, 7, .inl od1))], [(zd_63, .inl (D.1 104, 10, .inr (.inr (.inr (.inr (rF ra n))))))], T] rfl dX0_pacesFrom_137 ?_
              refine z_ws [cOb o ad (sa 0) (sb 0) tr (upd x 4 (nI sm)), [(ad 4, .inl (D.1 100, 6, .inl tf))], [(ad 5, .inl (D.1 100, 6, .inl (va_cpy tf bf 0 0 nn)))], [(sa 0, .inr (2, [.int (c 16), .int (c 1), .int (c 0), .int wn, .ref (sa 1), .ref (sa 2), .ref (sa 3), .ref (sa 4)]))], [(sa 1, .inr (16, [.int md, .ref d, .int (nI n)]))], [(sa 2, .inl (D.1 100, 7, .inl (fun i_ => c (9 + i_))))], [(sa 3, .inl (D.1 100, 7, .inl (fun i_ => c (2 + i_))))], [(sa 4, .inl (D.1 100, 7, .inl od))], [(d, .inl (D.1 104, 10, .inr (.inr (.inr (.inr (rF ra n))))))], thP D sb ((some zd_63, n, ra), (zmd_63, wn1, od1), c1), T] (List.Perm.refl _) ?_
              exact z_vret gX hQX (tf, va_cpy tf bf 0 0 nn, nI sm, (some zd_63, n, ra), (zmd_63, wn1, od1), c1) (⟨hT, by rw [hsm2]; exact pc_yes hnn hP2 hR (by rw [← show c1 = rnC n k c nn P nn by rw [hc1, show i = nn by omega]]; exact c116) (by rw [← hsm2]; first | exact Or.inl c6 | exact Or.inr c14) hT2 (fun q hq => sb_cpy0 hq), tOK_g hn7⟩) rfl rfl (by first | decide | omega) (by first | decide | omega) dX0_pacesFrom_140
            · skip
              refine z_ws [cOb o ad (sa 0) (sb 0) tr x, [(ad 4, .inl (D.1 100, 6, .inl tf))], [(ad 5, .inl (D.1 100, 6, .inl bf))], [(sa 0, .inr (2, [.int (c 16), .int (c 1), .int (c 0), .int wn, .ref (sa 1), .ref (sa 2), .ref (sa 3), .ref (sa 4)]))], [(sa 1, .inr (16, [.int md, .ref d, .int (nI n)]))], [(sa 2, .inl (D.1 100, 7, .inl (fun i_ => c (9 + i_))))], [(sa 3, .inl (D.1 100, 7, .inl (fun i_ => c (2 + i_))))], [(sa 4, .inl (D.1 100, 7, .inl od))], [(d, .inl (D.1 104, 10, .inr (.inr (.inr (.inr (rF ra n))))))], thP D sb ((some zd_63, n, ra), (zmd_63, wn1, od1), c1), T] (List.Perm.refl _) ?_
              exact z_vret gX hQX (tf, bf, x 4, (some zd_63, n, ra), (zmd_63, wn1, od1), c1) (⟨hT, pc_no hR (by rw [← show c1 = rnC n k c nn P nn by rw [hc1, show i = nn by omega]]; exact c116), tOK_g hn7⟩) rfl (by simp only [upd_self]) (by first | decide | omega) (by first | decide | omega) dX0_pacesFrom_119
          · skip
            have k74 : i < nn := (zn_nle (a := nn) (b := i) (by omega) (by omega)).mp c74
            refine z_aload_n (pc := 77) gX 0 dX0_pacesFrom_77 rfl rfl ?_
            refine z_get (pc := 78) gX (zI_ok gX hAX) (zm 0 rfl) (ci := 0) (C := RX0) (T := TX0) (N := 14) rfl in_X0 5 (by decide) q214 (fun _ h => h) (v := .ref (sb 0)) rfl dX0_pacesFrom_78 ?_
            refine z_aload_n (pc := 81) gX 0 dX0_pacesFrom_81 rfl rfl ?_
            refine z_get (pc := 82) gX (zI_ok gX hAX) (zm 0 rfl) (ci := 0) (C := RX0) (T := TX0) (N := 14) rfl in_X0 11 (by decide) q220 (fun _ h => h) (v := .ref (ad 4)) rfl dX0_pacesFrom_82 ?_
            refine z_iload (pc := 85) gX 5 dX0_pacesFrom_85 rfl ?_
            refine z_iald (pc := 87) gX (zI_ok gX hAX) (j := i) (n := 6) (f := tf) (zm 1 rfl) (by omega) (by decide) dX0_pacesFrom_87 ?_
            refine z_top (nI (dg nn P i)) (hT2 i (by omega)) ?_
            refine z_put (pc := 88) gX hAX 9 rfl (ci := 2) (C := RX2) (T := TX2) (N := 8) rfl in_X2 tyX2 tyX2_ok nmX2 1 (by decide) q151 (fun _ h => h) rfl (v := .int (nI (dg nn P i))) rfl rfl (Nat.le_of_ble_eq_true rfl) [cOb o ad (sa 0) (sb 0) tr x, [(ad 4, .inl (D.1 100, 6, .inl tf))], [(ad 5, .inl (D.1 100, 6, .inl bf))], [(sa 0, .inr (2, [.int (c 16), .int (c 1), .int (c 0), .int wn, .ref (sa 1), .ref (sa 2), .ref (sa 3), .ref (sa 4)]))], [(sa 1, .inr (16, [.int md, .ref d, .int (nI n)]))], [(sa 2, .inl (D.1 100, 7, .inl (fun i_ => c (9 + i_))))], [(sa 3, .inl (D.1 100, 7, .inl (fun i_ => c (2 + i_))))], [(sa 4, .inl (D.1 100, 7, .inl od))], [(d, .inl (D.1 104, 10, .inr (.inr (.inr (.inr (rF ra n))))))], [(sb 0, .inr (2, [.int (c1 16), .int (nI (dg nn P i)), .int (c1 0), .int wn1, .ref (sb 1), .ref (sb 2), .ref (sb 3), .ref (sb 4)]))], [(sb 1, .inr (16, [.int zmd_63, .ref zd_63, .int (nI n)]))], [(sb 2, .inl (D.1 100, 7, .inl (fun i_ => c1 (9 + i_))))], [(sb 3, .inl (D.1 100, 7, .inl (fun i_ => c1 (2 + i_))))], [(sb 4, .inl (D.1 100, 7, .inl od1))], [(zd_63, .inl (D.1 104, 10, .inr (.inr (.inr (.inr (rF ra n))))))], T] rfl dX0_pacesFrom_88 ?_
            refine z_ext 11 (fun i_ => (upd c1 1 (nI (dg nn P i))) (9 + i_)) rfl (fun q hq => (pk_un (by omega)).symm) [cOb o ad (sa 0) (sb 0) tr x, [(ad 4, .inl (D.1 100, 6, .inl tf))], [(ad 5, .inl (D.1 100, 6, .inl bf))], [(sa 0, .inr (2, [.int (c 16), .int (c 1), .int (c 0), .int wn, .ref (sa 1), .ref (sa 2), .ref (sa 3), .ref (sa 4)]))], [(sa 1, .inr (16, [.int md, .ref d, .int (nI n)]))], [(sa 2, .inl (D.1 100, 7, .inl (fun i_ => c (9 + i_))))], [(sa 3, .inl (D.1 100, 7, .inl (fun i_ => c (2 + i_))))], [(sa 4, .inl (D.1 100, 7, .inl od))], [(d, .inl (D.1 104, 10, .inr (.inr (.inr (.inr (rF ra n))))))], [(sb 0, .inr (2, [.int (c1 16), .int (nI (dg nn P i)), .int (c1 0), .int wn1, .ref (sb 1), .ref (sb 2), .ref (sb 3), .ref (sb 4)]))], [(sb 1, .inr (16, [.int zmd_63, .ref zd_63, .int (nI n)]))], [(sb 2, .inl (D.1 100, 7, .inl (fun i_ => (upd c1 1 (nI (dg nn P i))) (9 + i_))))], [(sb 3, .inl (D.1 100, 7, .inl (fun i_ => c1 (2 + i_))))], [(sb 4, .inl (D.1 100, 7, .inl od1))], [(zd_63, .inl (D.1 104, 10, .inr (.inr (.inr (.inr (rF ra n))))))], T] rfl ?_
            refine z_ext 12 (fun i_ => (upd c1 1 (nI (dg nn P i))) (2 + i_)) rfl (fun q hq => (pk_un (by omega)).symm) [cOb o ad (sa 0) (sb 0) tr x, [(ad 4, .inl (D.1 100, 6, .inl tf))], [(ad 5, .inl (D.1 100, 6, .inl bf))], [(sa 0, .inr (2, [.int (c 16), .int (c 1), .int (c 0), .int wn, .ref (sa 1), .ref (sa 2), .ref (sa 3), .ref (sa 4)]))], [(sa 1, .inr (16, [.int md, .ref d, .int (nI n)]))], [(sa 2, .inl (D.1 100, 7, .inl (fun i_ => c (9 + i_))))], [(sa 3, .inl (D.1 100, 7, .inl (fun i_ => c (2 + i_))))], [(sa 4, .inl (D.1 100, 7, .inl od))], [(d, .inl (D.1 104, 10, .inr (.inr (.inr (.inr (rF ra n))))))], [(sb 0, .inr (2, [.int (c1 16), .int (nI (dg nn P i)), .int (c1 0), .int wn1, .ref (sb 1), .ref (sb 2), .ref (sb 3), .ref (sb 4)]))], [(sb 1, .inr (16, [.int zmd_63, .ref zd_63, .int (nI n)]))], [(sb 2, .inl (D.1 100, 7, .inl (fun i_ => (upd c1 1 (nI (dg nn P i))) (9 + i_))))], [(sb 3, .inl (D.1 100, 7, .inl (fun i_ => (upd c1 1 (nI (dg nn P i))) (2 + i_))))], [(sb 4, .inl (D.1 100, 7, .inl od1))], [(zd_63, .inl (D.1 104, 10, .inr (.inr (.inr (.inr (rF ra n))))))], T] rfl ?_
            refine z_weq [cOb o ad (sa 0) (sb 0) tr x, [(ad 4, .inl (D.1 100, 6, .inl tf))], [(ad 5, .inl (D.1 100, 6, .inl bf))], [(sa 0, .inr (2, [.int (c 16), .int (c 1), .int (c 0), .int wn, .ref (sa 1), .ref (sa 2), .ref (sa 3), .ref (sa 4)]))], [(sa 1, .inr (16, [.int md, .ref d, .int (nI n)]))], [(sa 2, .inl (D.1 100, 7, .inl (fun i_ => c (9 + i_))))], [(sa 3, .inl (D.1 100, 7, .inl (fun i_ => c (2 + i_))))], [(sa 4, .inl (D.1 100, 7, .inl od))], [(d, .inl (D.1 104, 10, .inr (.inr (.inr (.inr (rF ra n))))))], [(sb 0, .inr (2, [.int ((upd c1 1 (nI (dg nn P i))) 16), .int ((upd c1 1 (nI (dg nn P i))) 1), .int ((upd c1 1 (nI (dg nn P i))) 0), .int wn1, .ref (sb 1), .ref (sb 2), .ref (sb 3), .ref (sb 4)]))], [(sb 1, .inr (16, [.int zmd_63, .ref zd_63, .int (nI n)]))], [(sb 2, .inl (D.1 100, 7, .inl (fun i_ => (upd c1 1 (nI (dg nn P i))) (9 + i_))))], [(sb 3, .inl (D.1 100, 7, .inl (fun i_ => (upd c1 1 (nI (dg nn P i))) (2 + i_))))], [(sb 4, .inl (D.1 100, 7, .inl od1))], [(zd_63, .inl (D.1 104, 10, .inr (.inr (.inr (.inr (rF ra n))))))], T] (by rw [show (upd c1 1 (nI (dg nn P i))) 16 = c1 16 from pk_un (by omega), show (upd c1 1 (nI (dg nn P i))) 1 = (nI (dg nn P i)) from pk_us, show (upd c1 1 (nI (dg nn P i))) 0 = c1 0 from pk_un (by omega)]) ?_
            refine z_aload_n (pc := 91) gX 0 dX0_pacesFrom_91 rfl rfl ?_
            refine z_get (pc := 92) gX (zI_ok gX hAX) (zm 0 rfl) (ci := 0) (C := RX0) (T := TX0) (N := 14) rfl in_X0 5 (by decide) q214 (fun _ h => h) (v := .ref (sb 0)) rfl dX0_pacesFrom_92 ?_
            refine z_cMV (pc := 95) gX hAX [] [] [9, 10, 11, 12, 13, 14, 15] [0, 1, 2, 3, 4, 5, 6, 7, 8] (fun A1 => met_goOnC l D B0 A1 sb wn1 zmd_63 zd_63 n (upd c1 1 (nI (dg nn P i))) od1 ra T k (hK1.up (by omega))) q839 q840 q841 q49 q842 (zm 9 rfl) (ci := 2) rfl rfl hd_X2_goOn ⟨rfl, rfl⟩ ⟨(Nat.le_of_ble_eq_true rfl), (Nat.le_of_ble_eq_true rfl)⟩ rfl rfl (zpl 16 rfl (by decide +kernel)) rfl rfl (Nat.le_of_ble_eq_true rfl) ⟨(Nat.le_of_ble_eq_true rfl), (Nat.le_of_ble_eq_true rfl)⟩ dX0_pacesFrom_95 ?_
            intro u95 hu95
            obtain ⟨od1_95, rfl⟩ : ∃ z, z = u95 := ⟨_, rfl⟩
            refine z_re [7, 8, 9, 10, 11, 12, 13, 14, 15, 0, 1, 2, 3, 4, 5, 6] [cOb o ad (sa 0) (sb 0) tr x, [(ad 4, .inl (D.1 100, 6, .inl tf))], [(ad 5, .inl (D.1 100, 6, .inl bf))], [(sa 0, .inr (2, [.int (c 16), .int (c 1), .int (c 0), .int wn, .ref (sa 1), .ref (sa 2), .ref (sa 3), .ref (sa 4)]))], [(sa 1, .inr (16, [.int md, .ref d, .int (nI n)]))], [(sa 2, .inl (D.1 100, 7, .inl (fun i_ => c (9 + i_))))], [(sa 3, .inl (D.1 100, 7, .inl (fun i_ => c (2 + i_))))], [(sa 4, .inl (D.1 100, 7, .inl od))], [(d, .inl (D.1 104, 10, .inr (.inr (.inr (.inr (rF ra n))))))], [(sb 0, .inr (2, [.int ((mTick n k (upd c1 1 (nI (dg nn P i)))) 16), .int ((mTick n k (upd c1 1 (nI (dg nn P i)))) 1), .int ((mTick n k (upd c1 1 (nI (dg nn P i)))) 0), .int (wn1 + nI (wnP (mPh1 n k (upd c1 1 (nI (dg nn P i)))) n)), .ref (sb 1), .ref (sb 2), .ref (sb 3), .ref (sb 4)]))], [(sb 1, .inr (16, [.int zmd_63, .ref zd_63, .int (nI n)]))], [(sb 2, .inl (D.1 100, 7, .inl (fun i_ => (mTick n k (upd c1 1 (nI (dg nn P i)))) (9 + i_))))], [(sb 3, .inl (D.1 100, 7, .inl (fun i_ => (mTick n k (upd c1 1 (nI (dg nn P i)))) (2 + i_))))], [(sb 4, .inl (D.1 100, 7, .inl od1_95))], [(zd_63, .inl (D.1 104, 10, .inr (.inr (.inr (.inr (rF ra n))))))], T] rfl (zpl 16 rfl (by decide +kernel)) ?_
            refine z_eq (lv₂ := [(0, .ref o), (1, .int (nI at_)), (2, .int (nI sm)), (3, .int (nI j)), (4, .int (nI nn)), (5, .int (nI i))]) (st₂ := [.ref (sb 0)]) ?_ rfl rfl
            refine z_pop (pc := 98) gX dX0_pacesFrom_98 rfl ?_
            refine z_iinc (pc := 99) gX 5 (nI (i + 1)) [1, 2, 3, 4, 5, 0] [(0, .ref o), (1, .int (nI at_)), (2, .int (nI sm)), (3, .int (nI j)), (4, .int (nI nn)), (5, .int (nI (i + 1)))] dX0_pacesFrom_99 rfl (nI_1 _) (by decide) rfl ?_
            refine z_goto (pc := 102) gX 70 dX0_pacesFrom_102 (by decide) ?_
            exact ih70 (i + 1) (mTick n k (upd c1 1 (nI (dg nn P i)))) od1_95 (wn1 + nI (wnP (mPh1 n k (upd c1 1 (nI (dg nn P i)))) n)) (by omega) ((hK1.up (by omega)).tick) (by rw [hc1]; rfl) (by omega)
      exact L70 ((nn - 0) + 1) 0 c zod_63 wn (by omega) hK rfl (Nat.lt_succ_self _)
    · skip
      have k21 : at_ < nn := (zn_nle (a := nn) (b := at_) (by omega) (by omega)).mp c21
      exact absurd k21 (by omega)
  · skip
    refine z_iload_n (pc := 9) gX 2 dX0_pacesFrom_9 rfl rfl ?_
    refine z_aload_n (pc := 10) gX 0 dX0_pacesFrom_10 rfl rfl ?_
    refine z_get (pc := 11) gX (zI_ok gX hAX) (zm 0 rfl) (ci := 0) (C := RX0) (T := TX0) (N := 14) rfl in_X0 13 (by decide) q222 (fun _ h => h) (v := .int (x 4)) rfl dX0_pacesFrom_11 ?_
    refine z_icmp_lt (pc := 14) gX 18 dX0_pacesFrom_14 (by decide) (fun c14 => ?_) (fun c14 => ?_)
    · skip
      refine z_iload_n (pc := 18) gX 1 dX0_pacesFrom_18 rfl rfl ?_
      refine z_iload (pc := 19) gX 4 dX0_pacesFrom_19 rfl ?_
      refine z_icmp_ge (pc := 21) gX 62 dX0_pacesFrom_21 (by decide) (fun c21 => ?_) (fun c21 => ?_)
      · skip
        have k21 : nn ≤ at_ := (zn_le (a := nn) (b := at_) (by omega) (by omega)).mp c21
        refine z_aload_n (pc := 62) gX 0 dX0_pacesFrom_62 rfl rfl ?_
        refine z_cMV (pc := 63) gX hAX [] [] [0, 3, 4, 5, 6, 7, 8, 9, 10] [1, 2] (fun A1 => met_X0_asNow l D B0 A1 o ad sa sb tr x wn md d n c od ra T k ht hG ht0) q986 q988 qs23 q47 q989 (zm 0 rfl) (ci := 0) rfl rfl hd_X0_asNow ⟨rfl, rfl⟩ ⟨(Nat.le_of_ble_eq_true rfl), (Nat.le_of_ble_eq_true rfl)⟩ rfl rfl (zpl 11 rfl (by decide +kernel)) rfl rfl (Nat.le_of_ble_eq_true rfl) ⟨(Nat.le_of_ble_eq_true rfl), (Nat.le_of_ble_eq_true rfl)⟩ dX0_pacesFrom_63 ?_
        intro u63 hu63
        obtain ⟨zmd_63, zd_63, zod_63⟩ := u63
        refine z_re [0, 14, 15, 1, 2, 3, 4, 5, 6, 7, 9, 10, 11, 12, 13, 8] [cOb o ad (sa 0) (sb 0) tr x, [(ad 4, .inl (D.1 100, 6, .inl tf))], [(ad 5, .inl (D.1 100, 6, .inl bf))], [(sa 0, .inr (2, [.int (c 16), .int (c 1), .int (c 0), .int wn, .ref (sa 1), .ref (sa 2), .ref (sa 3), .ref (sa 4)]))], [(sa 1, .inr (16, [.int md, .ref d, .int (nI n)]))], [(sa 2, .inl (D.1 100, 7, .inl (fun i_ => c (9 + i_))))], [(sa 3, .inl (D.1 100, 7, .inl (fun i_ => c (2 + i_))))], [(sa 4, .inl (D.1 100, 7, .inl od))], [(d, .inl (D.1 104, 10, .inr (.inr (.inr (.inr (rF ra n))))))], [(sb 0, .inr (2, [.int (c 16), .int (c 1), .int (c 0), .int wn, .ref (sb 1), .ref (sb 2), .ref (sb 3), .ref (sb 4)]))], [(sb 1, .inr (16, [.int zmd_63, .ref zd_63, .int (nI n)]))], [(sb 2, .inl (D.1 100, 7, .inl (fun i_ => c (9 + i_))))], [(sb 3, .inl (D.1 100, 7, .inl (fun i_ => c (2 + i_))))], [(sb 4, .inl (D.1 100, 7, .inl zod_63))], [(zd_63, .inl (D.1 104, 10, .inr (.inr (.inr (.inr (rF ra n))))))], T] rfl (zpl 16 rfl (by decide +kernel)) ?_
        refine z_norm [cOb o ad (sa 0) (sb 0) tr x, [(ad 4, .inl (D.1 100, 6, .inl tf))], [(ad 5, .inl (D.1 100, 6, .inl bf))], [(sa 0, .inr (2, [.int (c 16), .int (c 1), .int (c 0), .int wn, .ref (sa 1), .ref (sa 2), .ref (sa 3), .ref (sa 4)]))], [(sa 1, .inr (16, [.int md, .ref d, .int (nI n)]))], [(sa 2, .inl (D.1 100, 7, .inl (fun i_ => c (9 + i_))))], [(sa 3, .inl (D.1 100, 7, .inl (fun i_ => c (2 + i_))))], [(sa 4, .inl (D.1 100, 7, .inl od))], [(d, .inl (D.1 104, 10, .inr (.inr (.inr (.inr (rF ra n))))))], [(sb 0, .inr (2, [.int (c 16), .int (c 1), .int (c 0), .int wn, .ref (sb 1), .ref (sb 2), .ref (sb 3), .ref (sb 4)]))], [(sb 1, .inr (16, [.int zmd_63, .ref zd_63, .int (nI n)]))], [(sb 2, .inl (D.1 100, 7, .inl (fun i_ => c (9 + i_))))], [(sb 3, .inl (D.1 100, 7, .inl (fun i_ => c (2 + i_))))], [(sb 4, .inl (D.1 100, 7, .inl zod_63))], [(zd_63, .inl (D.1 104, 10, .inr (.inr (.inr (.inr (rF ra n))))))], T] 1 10 ?_ rfl rfl rfl
        refine z_eq (lv₂ := [(0, .ref o), (1, .int (nI at_)), (2, .int (nI sm)), (3, .int (nI j)), (4, .int (nI nn))]) (st₂ := [.ref (sb 0)]) ?_ rfl rfl
        refine z_pop (pc := 66) gX dX0_pacesFrom_66 rfl ?_
        refine z_iconst (pc := 67) gX 0 dX0_pacesFrom_67 (by decide) ?_
        refine z_istore (pc := 68) gX [1, 2, 3, 4, 5, 0] [(0, .ref o), (1, .int (nI at_)), (2, .int (nI sm)), (3, .int (nI j)), (4, .int (nI nn)), (5, .int 0)] dX0_pacesFrom_68 (by decide) rfl ?_
        have L70 : ∀ (n70 : Nat) (i : Nat) (c1 : Nat → Int32) (od1 : Nat → Int32) (wn1 : Int32), (i ≤ nn) → (kOK T n k ra c1) → (c1 = rnC n k c nn P i) → nn - i < n70 → zJ pX l eX (zRm 10 1 10) sX mX argsX blX mtX cX QX 6 (zI D A sX [cOb o ad (sa 0) (sb 0) tr x, [(ad 4, .inl (D.1 100, 6, .inl tf))], [(ad 5, .inl (D.1 100, 6, .inl bf))], [(sa 0, .inr (2, [.int (c 16), .int (c 1), .int (c 0), .int wn, .ref (sa 1), .ref (sa 2), .ref (sa 3), .ref (sa 4)]))], [(sa 1, .inr (16, [.int md, .ref d, .int (nI n)]))], [(sa 2, .inl (D.1 100, 7, .inl (fun i_ => c (9 + i_))))], [(sa 3, .inl (D.1 100, 7, .inl (fun i_ => c (2 + i_))))], [(sa 4, .inl (D.1 100, 7, .inl od))], [(d, .inl (D.1 104, 10, .inr (.inr (.inr (.inr (rF ra n))))))], [(sb 0, .inr (2, [.int (c1 16), .int (c1 1), .int (c1 0), .int wn1, .ref (sb 1), .ref (sb 2), .ref (sb 3), .ref (sb 4)]))], [(sb 1, .inr (16, [.int zmd_63, .ref zd_63, .int (nI n)]))], [(sb 2, .inl (D.1 100, 7, .inl (fun i_ => c1 (9 + i_))))], [(sb 3, .inl (D.1 100, 7, .inl (fun i_ => c1 (2 + i_))))], [(sb 4, .inl (D.1 100, 7, .inl od1))], [(zd_63, .inl (D.1 104, 10, .inr (.inr (.inr (.inr (rF ra n))))))], T]) 1 10 70 [(0, .ref o), (1, .int (nI at_)), (2, .int (nI sm)), (3, .int (nI j)), (4, .int (nI nn)), (5, .int (nI i))] [] := by
          intro n70
          induction n70 with
          | zero => exact fun i c1 od1 wn1 hi hK1 hc1 hm70 => absurd hm70 (Nat.not_lt_zero _)
          | succ n70 ih70 =>
            intro i c1 od1 wn1 hi hK1 hc1 hm70
            refine z_iload (pc := 70) gX 5 dX0_pacesFrom_70 rfl ?_
            refine z_iload (pc := 72) gX 4 dX0_pacesFrom_72 rfl ?_
            refine z_icmp_ge (pc := 74) gX 105 dX0_pacesFrom_74 (by decide) (fun c74 => ?_) (fun c74 => ?_)
            · skip
              have k74 : nn ≤ i := (zn_le (a := nn) (b := i) (by omega) (by omega)).mp c74
              refine z_aload_n (pc := 105) gX 0 dX0_pacesFrom_105 rfl rfl ?_
              refine z_get (pc := 106) gX (zI_ok gX hAX) (zm 0 rfl) (ci := 0) (C := RX0) (T := TX0) (N := 14) rfl in_X0 5 (by decide) q214 (fun _ h => h) (v := .ref (sb 0)) rfl dX0_pacesFrom_106 ?_
              refine z_get (pc := 109) gX (zI_ok gX hAX) (zm 9 rfl) (ci := 2) (C := RX2) (T := TX2) (N := 8) rfl in_X2 6 (by decide) q171 (fun _ h => h) (v := .ref (sb 3)) rfl dX0_pacesFrom_109 ?_
              refine z_iload_n (pc := 112) gX 3 dX0_pacesFrom_112 rfl rfl ?_
              refine z_iald (pc := 113) gX (zI_ok gX hAX) (j := j) (n := 7) (f := (fun i_ => c1 (2 + i_))) (zm 12 rfl) (by omega) (by decide) dX0_pacesFrom_113 ?_
              refine z_top (c1 (2 + j)) rfl ?_
              refine z_bipush (pc := 114) gX 99 dX0_pacesFrom_114 (by decide) ?_
              refine z_icmp_eq (pc := 116) gX 120 dX0_pacesFrom_116 (by decide) (fun c116 => ?_) (fun c116 => ?_)
              · skip
                refine z_aload_n (pc := 120) gX 0 dX0_pacesFrom_120 rfl rfl ?_
                refine z_iload_n (pc := 121) gX 2 dX0_pacesFrom_121 rfl rfl ?_
                refine z_put (pc := 122) gX hAX 0 rfl (ci := 0) (C := RX0) (T := TX0) (N := 14) rfl in_X0 tyX0 tyX0_ok nmX0 13 (by decide) q222 (fun _ h => h) rfl (v := .int (nI sm)) rfl rfl (Nat.le_of_ble_eq_true rfl) [cOb o ad (sa 0) (sb 0) tr (upd x 4 (nI sm)), [(ad 4, .inl (D.1 100, 6, .inl tf))], [(ad 5, .inl (D.1 100, 6, .inl bf))], [(sa 0, .inr (2, [.int (c 16), .int (c 1), .int (c 0), .int wn, .ref (sa 1), .ref (sa 2), .ref (sa 3), .ref (sa 4)]))], [(sa 1, .inr (16, [.int md, .ref d, .int (nI n)]))], [(sa 2, .inl (D.1 100, 7, .inl (fun i_ => c (9 + i_))))], [(sa 3, .inl (D.1 100, 7, .inl (fun i_ => c (2 + i_))))], [(sa 4, .inl (D.1 100, 7, .inl od))], [(d, .inl (D.1 104, 10, .inr (.inr (.inr (.inr (rF ra n))))))], [(sb 0, .inr (2, [.int (c1 16), .int (c1 1), .int (c1 0), .int wn1, .ref (sb 1), .ref (sb 2), .ref (sb 3), .ref (sb 4)]))], [(sb 1, .inr (16, [.int zmd_63, .ref zd_63, .int (nI n)]))], [(sb 2, .inl (D.1 100, 7, .inl (fun i_ => c1 (9 + i_))))], [(sb 3, .inl (D.1 100, 7, .inl (fun i_ => c1 (2 + i_))))], [(sb 4, .inl (D.1 100, 7, .inl od1))], [(zd_63, .inl (D.1 104, 10, .inr (.inr (.inr (.inr (rF ra n))))))], T] rfl dX0_pacesFrom_122 ?_
                refine z_aload_n (pc := 125) gX 0 dX0_pacesFrom_125 rfl rfl ?_
                refine z_get (pc := 126) gX (zI_ok gX hAX) (zm 0 rfl) (ci := 0) (C := RX0) (T := TX0) (N := 14) rfl in_X0 11 (by decide) q220 (fun _ h => h) (v := .ref (ad 4)) rfl dX0_pacesFrom_126 ?_
                refine z_iconst (pc := 129) gX 0 dX0_pacesFrom_129 (by decide) ?_
                refine z_aload_n (pc := 130) gX 0 dX0_pacesFrom_130 rfl rfl ?_
                refine z_get (pc := 131) gX (zI_ok gX hAX) (zm 0 rfl) (ci := 0) (C := RX0) (T := TX0) (N := 14) rfl in_X0 12 (by decide) q221 (fun _ h => h) (v := .ref (ad 5)) rfl dX0_pacesFrom_131 ?_
                refine z_iconst (pc := 134) gX 0 dX0_pacesFrom_134 (by decide) ?_
                refine z_iload (pc := 135) gX 4 dX0_pacesFrom_135 rfl ?_
                refine z_eq (lv₂ := [(0, .ref o), (1, .int (nI at_)), (2, .int (nI sm)), (3, .int (nI j)), (4, .int (nI nn)), (5, .int (nI i))]) (st₂ := .int (nI nn) :: .int (nI 0) :: .ref (ad 5) :: .int (nI 0) :: .ref (ad 4) :: []) ?_ rfl rfl
                refine z_copyi (pc := 137) gX hAX ⟨q442, q444, q443, q64⟩ 1 2 0 rfl rfl rfl rfl (by omega) (by omega) (by omega) (fun _ _ => rfl) (Nat.le_of_ble_eq_true rfl) (Nat.le_of_ble_eq_true rfl) [cOb o ad (sa 0) (sb 0) tr (upd x 4 (nI sm)), [(ad 4, .inl (D.1 100, 6, .inl tf))], [(ad 5, .inl (D.1 100, 6, .inl (va_cpy tf bf 0 0 nn)))], [(sa 0, .inr (2, [.int (c 16), .int (c 1), .int (c 0), .int wn, .ref (sa 1), .ref (sa 2), .ref (sa 3), .ref (sa 4)]))], [(sa 1, .inr (16, [.int md, .ref d, .int (nI n)]))], [(sa 2, .inl (D.1 100, 7, .inl (fun i_ => c (9 + i_))))], [(sa 3, .inl (D.1 100, 7, .inl (fun i_ => c (2 + i_))))], [(sa 4, .inl (D.1 100, 7, .inl od))], [(d, .inl (D.1 104, 10, .inr (.inr (.inr (.inr (rF ra n))))))], [(sb 0, .inr (2, [.int (c1 16), .int (c1 1), .int (c1 0), .int wn1, .ref (sb 1), .ref (sb 2), .ref (sb 3), .ref (sb 4)]))], [(sb 1, .inr (16, [.int zmd_63, .ref zd_63, .int (nI n)]))], [(sb 2, .inl (D.1 100, 7, .inl (fun i_ => c1 (9 + i_))))], [(sb 3, .inl (D.1 100, 7, .inl (fun i_ => c1 (2 + i_))))], [(sb 4, .inl (D.1 100, 7, .inl od1))], [(zd_63, .inl (D.1 104, 10, .inr (.inr (.inr (.inr (rF ra n))))))], T] rfl dX0_pacesFrom_137 ?_
                refine z_ws [cOb o ad (sa 0) (sb 0) tr (upd x 4 (nI sm)), [(ad 4, .inl (D.1 100, 6, .inl tf))], [(ad 5, .inl (D.1 100, 6, .inl (va_cpy tf bf 0 0 nn)))], [(sa 0, .inr (2, [.int (c 16), .int (c 1), .int (c 0), .int wn, .ref (sa 1), .ref (sa 2), .ref (sa 3), .ref (sa 4)]))], [(sa 1, .inr (16, [.int md, .ref d, .int (nI n)]))], [(sa 2, .inl (D.1 100, 7, .inl (fun i_ => c (9 + i_))))], [(sa 3, .inl (D.1 100, 7, .inl (fun i_ => c (2 + i_))))], [(sa 4, .inl (D.1 100, 7, .inl od))], [(d, .inl (D.1 104, 10, .inr (.inr (.inr (.inr (rF ra n))))))], thP D sb ((some zd_63, n, ra), (zmd_63, wn1, od1), c1), T] (List.Perm.refl _) ?_
                exact z_vret gX hQX (tf, va_cpy tf bf 0 0 nn, nI sm, (some zd_63, n, ra), (zmd_63, wn1, od1), c1) (⟨hT, by rw [hsm2]; exact pc_yes hnn hP2 hR (by rw [← show c1 = rnC n k c nn P nn by rw [hc1, show i = nn by omega]]; exact c116) (by rw [← hsm2]; first | exact Or.inl c6 | exact Or.inr c14) hT2 (fun q hq => sb_cpy0 hq), tOK_g hn7⟩) rfl rfl (by first | decide | omega) (by first | decide | omega) dX0_pacesFrom_140
              · skip
                refine z_ws [cOb o ad (sa 0) (sb 0) tr x, [(ad 4, .inl (D.1 100, 6, .inl tf))], [(ad 5, .inl (D.1 100, 6, .inl bf))], [(sa 0, .inr (2, [.int (c 16), .int (c 1), .int (c 0), .int wn, .ref (sa 1), .ref (sa 2), .ref (sa 3), .ref (sa 4)]))], [(sa 1, .inr (16, [.int md, .ref d, .int (nI n)]))], [(sa 2, .inl (D.1 100, 7, .inl (fun i_ => c (9 + i_))))], [(sa 3, .inl (D.1 100, 7, .inl (fun i_ => c (2 + i_))))], [(sa 4, .inl (D.1 100, 7, .inl od))], [(d, .inl (D.1 104, 10, .inr (.inr (.inr (.inr (rF ra n))))))], thP D sb ((some zd_63, n, ra), (zmd_63, wn1, od1), c1), T] (List.Perm.refl _) ?_
                exact z_vret gX hQX (tf, bf, x 4, (some zd_63, n, ra), (zmd_63, wn1, od1), c1) (⟨hT, pc_no hR (by rw [← show c1 = rnC n k c nn P nn by rw [hc1, show i = nn by omega]]; exact c116), tOK_g hn7⟩) rfl (by simp only [upd_self]) (by first | decide | omega) (by first | decide | omega) dX0_pacesFrom_119
            · skip
              have k74 : i < nn := (zn_nle (a := nn) (b := i) (by omega) (by omega)).mp c74
              refine z_aload_n (pc := 77) gX 0 dX0_pacesFrom_77 rfl rfl ?_
              refine z_get (pc := 78) gX (zI_ok gX hAX) (zm 0 rfl) (ci := 0) (C := RX0) (T := TX0) (N := 14) rfl in_X0 5 (by decide) q214 (fun _ h => h) (v := .ref (sb 0)) rfl dX0_pacesFrom_78 ?_
              refine z_aload_n (pc := 81) gX 0 dX0_pacesFrom_81 rfl rfl ?_
              refine z_get (pc := 82) gX (zI_ok gX hAX) (zm 0 rfl) (ci := 0) (C := RX0) (T := TX0) (N := 14) rfl in_X0 11 (by decide) q220 (fun _ h => h) (v := .ref (ad 4)) rfl dX0_pacesFrom_82 ?_
              refine z_iload (pc := 85) gX 5 dX0_pacesFrom_85 rfl ?_
              refine z_iald (pc := 87) gX (zI_ok gX hAX) (j := i) (n := 6) (f := tf) (zm 1 rfl) (by omega) (by decide) dX0_pacesFrom_87 ?_
              refine z_top (nI (dg nn P i)) (hT2 i (by omega)) ?_
              refine z_put (pc := 88) gX hAX 9 rfl (ci := 2) (C := RX2) (T := TX2) (N := 8) rfl in_X2 tyX2 tyX2_ok nmX2 1 (by decide) q151 (fun _ h => h) rfl (v := .int (nI (dg nn P i))) rfl rfl (Nat.le_of_ble_eq_true rfl) [cOb o ad (sa 0) (sb 0) tr x, [(ad 4, .inl (D.1 100, 6, .inl tf))], [(ad 5, .inl (D.1 100, 6, .inl bf))], [(sa 0, .inr (2, [.int (c 16), .int (c 1), .int (c 0), .int wn, .ref (sa 1), .ref (sa 2), .ref (sa 3), .ref (sa 4)]))], [(sa 1, .inr (16, [.int md, .ref d, .int (nI n)]))], [(sa 2, .inl (D.1 100, 7, .inl (fun i_ => c (9 + i_))))], [(sa 3, .inl (D.1 100, 7, .inl (fun i_ => c (2 + i_))))], [(sa 4, .inl (D.1 100, 7, .inl od))], [(d, .inl (D.1 104, 10, .inr (.inr (.inr (.inr (rF ra n))))))], [(sb 0, .inr (2, [.int (c1 16), .int (nI (dg nn P i)), .int (c1 0), .int wn1, .ref (sb 1), .ref (sb 2), .ref (sb 3), .ref (sb 4)]))], [(sb 1, .inr (16, [.int zmd_63, .ref zd_63, .int (nI n)]))], [(sb 2, .inl (D.1 100, 7, .inl (fun i_ => c1 (9 + i_))))], [(sb 3, .inl (D.1 100, 7, .inl (fun i_ => c1 (2 + i_))))], [(sb 4, .inl (D.1 100, 7, .inl od1))], [(zd_63, .inl (D.1 104, 10, .inr (.inr (.inr (.inr (rF ra n))))))], T] rfl dX0_pacesFrom_88 ?_
              refine z_ext 11 (fun i_ => (upd c1 1 (nI (dg nn P i))) (9 + i_)) rfl (fun q hq => (pk_un (by omega)).symm) [cOb o ad (sa 0) (sb 0) tr x, [(ad 4, .inl (D.1 100, 6, .inl tf))], [(ad 5, .inl (D.1 100, 6, .inl bf))], [(sa 0, .inr (2, [.int (c 16), .int (c 1), .int (c 0), .int wn, .ref (sa 1), .ref (sa 2), .ref (sa 3), .ref (sa 4)]))], [(sa 1, .inr (16, [.int md, .ref d, .int (nI n)]))], [(sa 2, .inl (D.1 100, 7, .inl (fun i_ => c (9 + i_))))], [(sa 3, .inl (D.1 100, 7, .inl (fun i_ => c (2 + i_))))], [(sa 4, .inl (D.1 100, 7, .inl od))], [(d, .inl (D.1 104, 10, .inr (.inr (.inr (.inr (rF ra n))))))], [(sb 0, .inr (2, [.int (c1 16), .int (nI (dg nn P i)), .int (c1 0), .int wn1, .ref (sb 1), .ref (sb 2), .ref (sb 3), .ref (sb 4)]))], [(sb 1, .inr (16, [.int zmd_63, .ref zd_63, .int (nI n)]))], [(sb 2, .inl (D.1 100, 7, .inl (fun i_ => (upd c1 1 (nI (dg nn P i))) (9 + i_))))], [(sb 3, .inl (D.1 100, 7, .inl (fun i_ => c1 (2 + i_))))], [(sb 4, .inl (D.1 100, 7, .inl od1))], [(zd_63, .inl (D.1 104, 10, .inr (.inr (.inr (.inr (rF ra n))))))], T] rfl ?_
              refine z_ext 12 (fun i_ => (upd c1 1 (nI (dg nn P i))) (2 + i_)) rfl (fun q hq => (pk_un (by omega)).symm) [cOb o ad (sa 0) (sb 0) tr x, [(ad 4, .inl (D.1 100, 6, .inl tf))], [(ad 5, .inl (D.1 100, 6, .inl bf))], [(sa 0, .inr (2, [.int (c 16), .int (c 1), .int (c 0), .int wn, .ref (sa 1), .ref (sa 2), .ref (sa 3), .ref (sa 4)]))], [(sa 1, .inr (16, [.int md, .ref d, .int (nI n)]))], [(sa 2, .inl (D.1 100, 7, .inl (fun i_ => c (9 + i_))))], [(sa 3, .inl (D.1 100, 7, .inl (fun i_ => c (2 + i_))))], [(sa 4, .inl (D.1 100, 7, .inl od))], [(d, .inl (D.1 104, 10, .inr (.inr (.inr (.inr (rF ra n))))))], [(sb 0, .inr (2, [.int (c1 16), .int (nI (dg nn P i)), .int (c1 0), .int wn1, .ref (sb 1), .ref (sb 2), .ref (sb 3), .ref (sb 4)]))], [(sb 1, .inr (16, [.int zmd_63, .ref zd_63, .int (nI n)]))], [(sb 2, .inl (D.1 100, 7, .inl (fun i_ => (upd c1 1 (nI (dg nn P i))) (9 + i_))))], [(sb 3, .inl (D.1 100, 7, .inl (fun i_ => (upd c1 1 (nI (dg nn P i))) (2 + i_))))], [(sb 4, .inl (D.1 100, 7, .inl od1))], [(zd_63, .inl (D.1 104, 10, .inr (.inr (.inr (.inr (rF ra n))))))], T] rfl ?_
              refine z_weq [cOb o ad (sa 0) (sb 0) tr x, [(ad 4, .inl (D.1 100, 6, .inl tf))], [(ad 5, .inl (D.1 100, 6, .inl bf))], [(sa 0, .inr (2, [.int (c 16), .int (c 1), .int (c 0), .int wn, .ref (sa 1), .ref (sa 2), .ref (sa 3), .ref (sa 4)]))], [(sa 1, .inr (16, [.int md, .ref d, .int (nI n)]))], [(sa 2, .inl (D.1 100, 7, .inl (fun i_ => c (9 + i_))))], [(sa 3, .inl (D.1 100, 7, .inl (fun i_ => c (2 + i_))))], [(sa 4, .inl (D.1 100, 7, .inl od))], [(d, .inl (D.1 104, 10, .inr (.inr (.inr (.inr (rF ra n))))))], [(sb 0, .inr (2, [.int ((upd c1 1 (nI (dg nn P i))) 16), .int ((upd c1 1 (nI (dg nn P i))) 1), .int ((upd c1 1 (nI (dg nn P i))) 0), .int wn1, .ref (sb 1), .ref (sb 2), .ref (sb 3), .ref (sb 4)]))], [(sb 1, .inr (16, [.int zmd_63, .ref zd_63, .int (nI n)]))], [(sb 2, .inl (D.1 100, 7, .inl (fun i_ => (upd c1 1 (nI (dg nn P i))) (9 + i_))))], [(sb 3, .inl (D.1 100, 7, .inl (fun i_ => (upd c1 1 (nI (dg nn P i))) (2 + i_))))], [(sb 4, .inl (D.1 100, 7, .inl od1))], [(zd_63, .inl (D.1 104, 10, .inr (.inr (.inr (.inr (rF ra n))))))], T] (by rw [show (upd c1 1 (nI (dg nn P i))) 16 = c1 16 from pk_un (by omega), show (upd c1 1 (nI (dg nn P i))) 1 = (nI (dg nn P i)) from pk_us, show (upd c1 1 (nI (dg nn P i))) 0 = c1 0 from pk_un (by omega)]) ?_
              refine z_aload_n (pc := 91) gX 0 dX0_pacesFrom_91 rfl rfl ?_
              refine z_get (pc := 92) gX (zI_ok gX hAX) (zm 0 rfl) (ci := 0) (C := RX0) (T := TX0) (N := 14) rfl in_X0 5 (by decide) q214 (fun _ h => h) (v := .ref (sb 0)) rfl dX0_pacesFrom_92 ?_
              refine z_cMV (pc := 95) gX hAX [] [] [9, 10, 11, 12, 13, 14, 15] [0, 1, 2, 3, 4, 5, 6, 7, 8] (fun A1 => met_goOnC l D B0 A1 sb wn1 zmd_63 zd_63 n (upd c1 1 (nI (dg nn P i))) od1 ra T k (hK1.up (by omega))) q839 q840 q841 q49 q842 (zm 9 rfl) (ci := 2) rfl rfl hd_X2_goOn ⟨rfl, rfl⟩ ⟨(Nat.le_of_ble_eq_true rfl), (Nat.le_of_ble_eq_true rfl)⟩ rfl rfl (zpl 16 rfl (by decide +kernel)) rfl rfl (Nat.le_of_ble_eq_true rfl) ⟨(Nat.le_of_ble_eq_true rfl), (Nat.le_of_ble_eq_true rfl)⟩ dX0_pacesFrom_95 ?_
              intro u95 hu95
              obtain ⟨od1_95, rfl⟩ : ∃ z, z = u95 := ⟨_, rfl⟩
              refine z_re [7, 8, 9, 10, 11, 12, 13, 14, 15, 0, 1, 2, 3, 4, 5, 6] [cOb o ad (sa 0) (sb 0) tr x, [(ad 4, .inl (D.1 100, 6, .inl tf))], [(ad 5, .inl (D.1 100, 6, .inl bf))], [(sa 0, .inr (2, [.int (c 16), .int (c 1), .int (c 0), .int wn, .ref (sa 1), .ref (sa 2), .ref (sa 3), .ref (sa 4)]))], [(sa 1, .inr (16, [.int md, .ref d, .int (nI n)]))], [(sa 2, .inl (D.1 100, 7, .inl (fun i_ => c (9 + i_))))], [(sa 3, .inl (D.1 100, 7, .inl (fun i_ => c (2 + i_))))], [(sa 4, .inl (D.1 100, 7, .inl od))], [(d, .inl (D.1 104, 10, .inr (.inr (.inr (.inr (rF ra n))))))], [(sb 0, .inr (2, [.int ((mTick n k (upd c1 1 (nI (dg nn P i)))) 16), .int ((mTick n k (upd c1 1 (nI (dg nn P i)))) 1), .int ((mTick n k (upd c1 1 (nI (dg nn P i)))) 0), .int (wn1 + nI (wnP (mPh1 n k (upd c1 1 (nI (dg nn P i)))) n)), .ref (sb 1), .ref (sb 2), .ref (sb 3), .ref (sb 4)]))], [(sb 1, .inr (16, [.int zmd_63, .ref zd_63, .int (nI n)]))], [(sb 2, .inl (D.1 100, 7, .inl (fun i_ => (mTick n k (upd c1 1 (nI (dg nn P i)))) (9 + i_))))], [(sb 3, .inl (D.1 100, 7, .inl (fun i_ => (mTick n k (upd c1 1 (nI (dg nn P i)))) (2 + i_))))], [(sb 4, .inl (D.1 100, 7, .inl od1_95))], [(zd_63, .inl (D.1 104, 10, .inr (.inr (.inr (.inr (rF ra n))))))], T] rfl (zpl 16 rfl (by decide +kernel)) ?_
              refine z_eq (lv₂ := [(0, .ref o), (1, .int (nI at_)), (2, .int (nI sm)), (3, .int (nI j)), (4, .int (nI nn)), (5, .int (nI i))]) (st₂ := [.ref (sb 0)]) ?_ rfl rfl
              refine z_pop (pc := 98) gX dX0_pacesFrom_98 rfl ?_
              refine z_iinc (pc := 99) gX 5 (nI (i + 1)) [1, 2, 3, 4, 5, 0] [(0, .ref o), (1, .int (nI at_)), (2, .int (nI sm)), (3, .int (nI j)), (4, .int (nI nn)), (5, .int (nI (i + 1)))] dX0_pacesFrom_99 rfl (nI_1 _) (by decide) rfl ?_
              refine z_goto (pc := 102) gX 70 dX0_pacesFrom_102 (by decide) ?_
              exact ih70 (i + 1) (mTick n k (upd c1 1 (nI (dg nn P i)))) od1_95 (wn1 + nI (wnP (mPh1 n k (upd c1 1 (nI (dg nn P i)))) n)) (by omega) ((hK1.up (by omega)).tick) (by rw [hc1]; rfl) (by omega)
        exact L70 ((nn - 0) + 1) 0 c zod_63 wn (by omega) hK rfl (Nat.lt_succ_self _)
      · skip
        have k21 : at_ < nn := (zn_nle (a := nn) (b := at_) (by omega) (by omega)).mp c21
        exact absurd k21 (by omega)
    · skip
      exact z_vret gX hQX (tf, bf, x 4, ht) (⟨hT, pc_cut ham rfl hnn hP hR c6 (by rw [← hsm]; exact c14), ht0⟩) rfl (by simp only [upd_self]) (by first | decide | omega) (by first | decide | omega) dX0_pacesFrom_17
theorem hd_X0_pacesFrom : zHd yX0_pacesFrom 4 := by unfold zHd; decide +kernel

set_option maxHeartbeats 4000000 in
theorem met_pacesR_1 (l : Launch) (D : va_G) (B0 : Nat) (A : Nat → Prop) (o : Nat) (ad : Nat → Nat) (sa : Nat → Nat) (sb : Nat → Nat) (tr : Nat) (x : Nat → Int32) (wn : Int32) (md : Int32) (d : Nat) (n : Nat) (c : Nat → Int32) (od : Nat → Int32) (ra : Nat → Nat) (T : va_W) (k : Nat) (ht : sT) (tf : Nat → Int32) (bf : Nat → Int32) (j : Nat) (nn : Nat) (P : Nat) (at_ : Nat) (sm : Nat) (hG : gOK T n k ra c) (ht0 : tOK ht) (hj : j < n) (hnn : nn ≤ 6) (ham : at_ + 1 = nn) (hP : P < 3 ^ at_) (hsm : sm = rnS at_ P at_) (hT : pcT at_ P tf) (hR : pcR n k c j nn (P * 3) (x 4) bf) : Met l yX0_pacesFrom (ws_ yX0_pacesFrom cX0_pacesFrom 6 none) (zRm 11 3 30) (va_Pc [.ref o, .int (nI at_), .int (nI sm), .int (nI j), .int (nI nn)] (zPre B0 D A [cOb o ad (sa 0) (sb 0) tr x, [(ad 4, .inl (D.1 100, 6, .inl tf))], [(ad 5, .inl (D.1 100, 6, .inl bf))], [(sa 0, .inr (2, [.int (c 16), .int (c 1), .int (c 0), .int wn, .ref (sa 1), .ref (sa 2), .ref (sa 3), .ref (sa 4)]))], [(sa 1, .inr (16, [.int md, .ref d, .int (nI n)]))], [(sa 2, .inl (D.1 100, 7, .inl (fun i_ => c (9 + i_))))], [(sa 3, .inl (D.1 100, 7, .inl (fun i_ => c (2 + i_))))], [(sa 4, .inl (D.1 100, 7, .inl od))], [(d, .inl (D.1 104, 10, .inr (.inr (.inr (.inr (rF ra n))))))], thP D sb ht, T])) (zQ (S := (Nat → Int32) × (Nat → Int32) × Int32 × sT) (fun u => (fun (tf1 : Nat → Int32) (bf1 : Nat → Int32) (l1 : Int32) (ht1 : sT) => pcT at_ P tf1 ∧ pcR n k c j nn ((P + 1) * 3) l1 bf1 ∧ tOK ht1) u.1 u.2.1 u.2.2.1 u.2.2.2) (fun u => (fun (tf1 : Nat → Int32) (bf1 : Nat → Int32) (l1 : Int32) (ht1 : sT) => none) u.1 u.2.1 u.2.2.1 u.2.2.2) (fun u => (fun (tf1 : Nat → Int32) (bf1 : Nat → Int32) (l1 : Int32) (ht1 : sT) => [cOb o ad (sa 0) (sb 0) tr (upd x 4 l1), [(ad 4, .inl (D.1 100, 6, .inl tf1))], [(ad 5, .inl (D.1 100, 6, .inl bf1))], [(sa 0, .inr (2, [.int (c 16), .int (c 1), .int (c 0), .int wn, .ref (sa 1), .ref (sa 2), .ref (sa 3), .ref (sa 4)]))], [(sa 1, .inr (16, [.int md, .ref d, .int (nI n)]))], [(sa 2, .inl (D.1 100, 7, .inl (fun i_ => c (9 + i_))))], [(sa 3, .inl (D.1 100, 7, .inl (fun i_ => c (2 + i_))))], [(sa 4, .inl (D.1 100, 7, .inl od))], [(d, .inl (D.1 104, 10, .inr (.inr (.inr (.inr (rF ra n))))))], thP D sb ht1, T]) u.1 u.2.1 u.2.2.1 u.2.2.2) D A) 3 30 A := by
  refine z_entry (by decide +kernel) (Nat.le_of_ble_eq_true rfl) (fun pX eX sX mX argsX blX mtX cX QX hQX gX hAX hnm => ?_)
  refine z_eq (lv₂ := [(0, .ref o), (1, .int (nI at_)), (2, .int (nI sm)), (3, .int (nI j)), (4, .int (nI nn))]) (st₂ := []) ?_ rfl rfl
  have hK := hG.k
  have hn7 := hG.2.1
  have hsl : sm ≤ 12 := by have := rnS_le at_ P at_; omega
  refine z_aload_n (pc := 0) gX 0 dX0_pacesFrom_0 rfl rfl ?_
  refine z_get (pc := 1) gX (zI_ok gX hAX) (zm 0 rfl) (ci := 0) (C := RX0) (T := TX0) (N := 14) rfl in_X0 13 (by decide) q222 (fun _ h => h) (v := .int (x 4)) rfl dX0_pacesFrom_1 ?_
  refine z_ldc (pc := 4) gX q1003 dX0_pacesFrom_4 ?_
  refine z_icmp_eq (pc := 6) gX 18 dX0_pacesFrom_6 (by decide) (fun c6 => ?_) (fun c6 => ?_)
  · skip
    refine z_iload_n (pc := 18) gX 1 dX0_pacesFrom_18 rfl rfl ?_
    refine z_iload (pc := 19) gX 4 dX0_pacesFrom_19 rfl ?_
    refine z_icmp_ge (pc := 21) gX 62 dX0_pacesFrom_21 (by decide) (fun c21 => ?_) (fun c21 => ?_)
    · skip
      have k21 : nn ≤ at_ := (zn_le (a := nn) (b := at_) (by omega) (by omega)).mp c21
      exact absurd k21 (by omega)
    · skip
      have k21 : at_ < nn := (zn_nle (a := nn) (b := at_) (by omega) (by omega)).mp c21
      refine z_iconst (pc := 24) gX 0 dX0_pacesFrom_24 (by decide) ?_
      refine z_istore (pc := 25) gX [1, 2, 3, 4, 5, 0] [(0, .ref o), (1, .int (nI at_)), (2, .int (nI sm)), (3, .int (nI j)), (4, .int (nI nn)), (5, .int 0)] dX0_pacesFrom_25 (by decide) rfl ?_
      have L27 : ∀ (n27 : Nat) (v : Nat) (x2 : Nat → Int32) (tf2 : Nat → Int32) (bf2 : Nat → Int32) (h2 : sT), (v ≤ 3) → (x2 = upd x 4 (x2 4)) → (pcT at_ P tf2) → (pcR n k c j nn ((3 * P + v) * 1) (x2 4) bf2) → (tOK h2) → 3 - v < n27 → zJ pX l eX (zRm 11 3 30) sX mX argsX blX mtX cX QX 6 (zI D A sX [cOb o ad (sa 0) (sb 0) tr x2, [(ad 4, .inl (D.1 100, 6, .inl tf2))], [(ad 5, .inl (D.1 100, 6, .inl bf2))], [(sa 0, .inr (2, [.int (c 16), .int (c 1), .int (c 0), .int wn, .ref (sa 1), .ref (sa 2), .ref (sa 3), .ref (sa 4)]))], [(sa 1, .inr (16, [.int md, .ref d, .int (nI n)]))], [(sa 2, .inl (D.1 100, 7, .inl (fun i_ => c (9 + i_))))], [(sa 3, .inl (D.1 100, 7, .inl (fun i_ => c (2 + i_))))], [(sa 4, .inl (D.1 100, 7, .inl od))], [(d, .inl (D.1 104, 10, .inr (.inr (.inr (.inr (rF ra n))))))], thP D sb h2, T]) (1 * v) (10 * v) 27 [(0, .ref o), (1, .int (nI at_)), (2, .int (nI sm)), (3, .int (nI j)), (4, .int (nI nn)), (5, .int (nI v))] [] := by
        intro n27
        induction n27 with
        | zero => exact fun v x2 tf2 bf2 h2 hv hx2 hT2 hR2 ht2 hm27 => absurd hm27 (Nat.not_lt_zero _)
        | succ n27 ih27 =>
          intro v x2 tf2 bf2 h2 hv hx2 hT2 hR2 ht2 hm27
          refine z_iload (pc := 27) gX 5 dX0_pacesFrom_27 rfl ?_
          refine z_iconst (pc := 29) gX 2 dX0_pacesFrom_29 (by decide) ?_
          refine z_icmp_gt (pc := 30) gX 61 dX0_pacesFrom_30 (by decide) (fun c30 => ?_) (fun c30 => ?_)
          · skip
            have k30 : 2 < v := (zn_lt (a := 2) (b := v) (by omega) (by omega)).mp c30
            exact z_vret gX hQX (tf2, bf2, x2 4, h2) (⟨hT2, by rw [show (P + 1) * 3 = (3 * P + v) * 1 by omega]; exact hR2, ht2⟩) rfl (by simp only [← hx2]) (by first | decide | omega) (by first | decide | omega) dX0_pacesFrom_61
          · skip
            have k30 : v ≤ 2 := (zn_nlt (a := 2) (b := v) (by omega) (by omega)).mp c30
            refine z_aload_n (pc := 33) gX 0 dX0_pacesFrom_33 rfl rfl ?_
            refine z_get (pc := 34) gX (zI_ok gX hAX) (zm 0 rfl) (ci := 0) (C := RX0) (T := TX0) (N := 14) rfl in_X0 11 (by decide) q220 (fun _ h => h) (v := .ref (ad 4)) rfl dX0_pacesFrom_34 ?_
            refine z_iload_n (pc := 37) gX 1 dX0_pacesFrom_37 rfl rfl ?_
            refine z_iload (pc := 38) gX 5 dX0_pacesFrom_38 rfl ?_
            refine z_iast (pc := 40) gX hAX 1 (j := at_) (n := 6) (f := tf2) rfl (by omega) (by decide) [cOb o ad (sa 0) (sb 0) tr x2, [(ad 4, .inl (D.1 100, 6, .inl (upd tf2 at_ (nI v))))], [(ad 5, .inl (D.1 100, 6, .inl bf2))], [(sa 0, .inr (2, [.int (c 16), .int (c 1), .int (c 0), .int wn, .ref (sa 1), .ref (sa 2), .ref (sa 3), .ref (sa 4)]))], [(sa 1, .inr (16, [.int md, .ref d, .int (nI n)]))], [(sa 2, .inl (D.1 100, 7, .inl (fun i_ => c (9 + i_))))], [(sa 3, .inl (D.1 100, 7, .inl (fun i_ => c (2 + i_))))], [(sa 4, .inl (D.1 100, 7, .inl od))], [(d, .inl (D.1 104, 10, .inr (.inr (.inr (.inr (rF ra n))))))], thP D sb h2, T] rfl dX0_pacesFrom_40 ?_
            refine z_aload_n (pc := 41) gX 0 dX0_pacesFrom_41 rfl rfl ?_
            refine z_iload_n (pc := 42) gX 1 dX0_pacesFrom_42 rfl rfl ?_
            refine z_iconst (pc := 43) gX 1 dX0_pacesFrom_43 (by decide) ?_
            refine z_iadd (pc := 44) gX dX0_pacesFrom_44 ?_
            refine z_top (nI (at_ + 1)) (nI_add at_ 1) ?_
            refine z_iload_n (pc := 45) gX 2 dX0_pacesFrom_45 rfl rfl ?_
            refine z_iload (pc := 46) gX 5 dX0_pacesFrom_46 rfl ?_
            refine z_iadd (pc := 48) gX dX0_pacesFrom_48 ?_
            refine z_top (nI (sm + v)) (nI_add sm v) ?_
            refine z_iload_n (pc := 49) gX 3 dX0_pacesFrom_49 rfl rfl ?_
            refine z_iload (pc := 50) gX 4 dX0_pacesFrom_50 rfl ?_
            refine z_cMV (pc := 52) gX hAX [.int (nI (at_ + 1)), .int (nI (sm + v)), .int (nI j), .int (nI nn)] [] [0, 1, 2, 3, 4, 5, 6, 7, 8, 9, 10] [] (fun A1 => met_pacesR_0 l D B0 A1 o ad sa sb tr x2 wn md d n c od ra T k h2 (upd tf2 at_ (nI v)) bf2 j nn (3 * P + v) (at_ + 1) (sm + v) hG ht2 hj hnn (by omega) (by rw [Nat.pow_succ]; omega) (by rw [rnS_s (by omega), hsm]) (pcT_s hT2 (by omega)) hR2) q1031 q1033 qs24 q47 q1034 (zm 0 rfl) (ci := 0) rfl rfl hd_X0_pacesFrom ⟨rfl, rfl⟩ ⟨(Nat.le_of_ble_eq_true rfl), (Nat.le_of_ble_eq_true rfl)⟩ rfl rfl (zpl 11 rfl (by decide +kernel)) rfl rfl (Nat.le_of_ble_eq_true rfl) ⟨(by first | decide | (simp only [zRm]; omega)), (by first | decide | (simp only [zRm]; omega))⟩ dX0_pacesFrom_52 ?_
            intro u52 hu52
            obtain ⟨tf1_52, bf1_52, l1_52, ht1_52⟩ := u52
            have hu52 : pcT (at_ + 1) (3 * P + v) tf1_52 ∧ pcR n k c j nn (((3 * P + v) + 1) * 1) l1_52 bf1_52 ∧ tOK ht1_52 := hu52
            refine z_re [0, 1, 2, 3, 4, 5, 6, 7, 8, 9, 10] [cOb o ad (sa 0) (sb 0) tr (upd x2 4 l1_52), [(ad 4, .inl (D.1 100, 6, .inl tf1_52))], [(ad 5, .inl (D.1 100, 6, .inl bf1_52))], [(sa 0, .inr (2, [.int (c 16), .int (c 1), .int (c 0), .int wn, .ref (sa 1), .ref (sa 2), .ref (sa 3), .ref (sa 4)]))], [(sa 1, .inr (16, [.int md, .ref d, .int (nI n)]))], [(sa 2, .inl (D.1 100, 7, .inl (fun i_ => c (9 + i_))))], [(sa 3, .inl (D.1 100, 7, .inl (fun i_ => c (2 + i_))))], [(sa 4, .inl (D.1 100, 7, .inl od))], [(d, .inl (D.1 104, 10, .inr (.inr (.inr (.inr (rF ra n))))))], thP D sb ht1_52, T] rfl (zpl 11 rfl (by decide +kernel)) ?_
            refine z_norm [cOb o ad (sa 0) (sb 0) tr (upd x2 4 l1_52), [(ad 4, .inl (D.1 100, 6, .inl tf1_52))], [(ad 5, .inl (D.1 100, 6, .inl bf1_52))], [(sa 0, .inr (2, [.int (c 16), .int (c 1), .int (c 0), .int wn, .ref (sa 1), .ref (sa 2), .ref (sa 3), .ref (sa 4)]))], [(sa 1, .inr (16, [.int md, .ref d, .int (nI n)]))], [(sa 2, .inl (D.1 100, 7, .inl (fun i_ => c (9 + i_))))], [(sa 3, .inl (D.1 100, 7, .inl (fun i_ => c (2 + i_))))], [(sa 4, .inl (D.1 100, 7, .inl od))], [(d, .inl (D.1 104, 10, .inr (.inr (.inr (.inr (rF ra n))))))], thP D sb ht1_52, T] (1 * v + 1) (10 * v + 10) ?_ rfl rfl rfl
            refine z_eq (lv₂ := [(0, .ref o), (1, .int (nI at_)), (2, .int (nI sm)), (3, .int (nI j)), (4, .int (nI nn)), (5, .int (nI v))]) (st₂ := []) ?_ rfl rfl
            refine z_iinc (pc := 55) gX 5 (nI (v + 1)) [1, 2, 3, 4, 5, 0] [(0, .ref o), (1, .int (nI at_)), (2, .int (nI sm)), (3, .int (nI j)), (4, .int (nI nn)), (5, .int (nI (v + 1)))] dX0_pacesFrom_55 rfl (nI_1 _) (by decide) rfl ?_
            refine z_goto (pc := 58) gX 27 dX0_pacesFrom_58 (by decide) ?_
            refine z_widen (k := 1 * (v + 1)) (n := 10 * (v + 1)) (by omega) (by omega) ?_
            exact ih27 (v + 1) (upd x2 4 l1_52) tf1_52 bf1_52 ht1_52 (by omega) (by rw [pk_us, hx2, upd_upd]) (pcT_p hu52.1 (by omega)) (by rw [pk_us, show (3 * P + (v + 1)) * 1 = (3 * P + v + 1) * 1 by omega]; exact hu52.2.1) hu52.2.2 (by omega)
      refine z_widen (k := 1 * 0) (n := 10 * 0) (by omega) (by omega) ?_
      exact L27 ((3 - 0) + 1) 0 x tf bf ht (by omega) ((upd_self _ _).symm) hT (by rw [show (3 * P + 0) * 1 = P * 3 by omega]; exact hR) ht0 (Nat.lt_succ_self _)
  · skip
    refine z_iload_n (pc := 9) gX 2 dX0_pacesFrom_9 rfl rfl ?_
    refine z_aload_n (pc := 10) gX 0 dX0_pacesFrom_10 rfl rfl ?_
    refine z_get (pc := 11) gX (zI_ok gX hAX) (zm 0 rfl) (ci := 0) (C := RX0) (T := TX0) (N := 14) rfl in_X0 13 (by decide) q222 (fun _ h => h) (v := .int (x 4)) rfl dX0_pacesFrom_11 ?_
    refine z_icmp_lt (pc := 14) gX 18 dX0_pacesFrom_14 (by decide) (fun c14 => ?_) (fun c14 => ?_)
    · skip
      refine z_iload_n (pc := 18) gX 1 dX0_pacesFrom_18 rfl rfl ?_
      refine z_iload (pc := 19) gX 4 dX0_pacesFrom_19 rfl ?_
      refine z_icmp_ge (pc := 21) gX 62 dX0_pacesFrom_21 (by decide) (fun c21 => ?_) (fun c21 => ?_)
      · skip
        have k21 : nn ≤ at_ := (zn_le (a := nn) (b := at_) (by omega) (by omega)).mp c21
        exact absurd k21 (by omega)
      · skip
        have k21 : at_ < nn := (zn_nle (a := nn) (b := at_) (by omega) (by omega)).mp c21
        refine z_iconst (pc := 24) gX 0 dX0_pacesFrom_24 (by decide) ?_
        refine z_istore (pc := 25) gX [1, 2, 3, 4, 5, 0] [(0, .ref o), (1, .int (nI at_)), (2, .int (nI sm)), (3, .int (nI j)), (4, .int (nI nn)), (5, .int 0)] dX0_pacesFrom_25 (by decide) rfl ?_
        have L27 : ∀ (n27 : Nat) (v : Nat) (x2 : Nat → Int32) (tf2 : Nat → Int32) (bf2 : Nat → Int32) (h2 : sT), (v ≤ 3) → (x2 = upd x 4 (x2 4)) → (pcT at_ P tf2) → (pcR n k c j nn ((3 * P + v) * 1) (x2 4) bf2) → (tOK h2) → 3 - v < n27 → zJ pX l eX (zRm 11 3 30) sX mX argsX blX mtX cX QX 6 (zI D A sX [cOb o ad (sa 0) (sb 0) tr x2, [(ad 4, .inl (D.1 100, 6, .inl tf2))], [(ad 5, .inl (D.1 100, 6, .inl bf2))], [(sa 0, .inr (2, [.int (c 16), .int (c 1), .int (c 0), .int wn, .ref (sa 1), .ref (sa 2), .ref (sa 3), .ref (sa 4)]))], [(sa 1, .inr (16, [.int md, .ref d, .int (nI n)]))], [(sa 2, .inl (D.1 100, 7, .inl (fun i_ => c (9 + i_))))], [(sa 3, .inl (D.1 100, 7, .inl (fun i_ => c (2 + i_))))], [(sa 4, .inl (D.1 100, 7, .inl od))], [(d, .inl (D.1 104, 10, .inr (.inr (.inr (.inr (rF ra n))))))], thP D sb h2, T]) (1 * v) (10 * v) 27 [(0, .ref o), (1, .int (nI at_)), (2, .int (nI sm)), (3, .int (nI j)), (4, .int (nI nn)), (5, .int (nI v))] [] := by
          intro n27
          induction n27 with
          | zero => exact fun v x2 tf2 bf2 h2 hv hx2 hT2 hR2 ht2 hm27 => absurd hm27 (Nat.not_lt_zero _)
          | succ n27 ih27 =>
            intro v x2 tf2 bf2 h2 hv hx2 hT2 hR2 ht2 hm27
            refine z_iload (pc := 27) gX 5 dX0_pacesFrom_27 rfl ?_
            refine z_iconst (pc := 29) gX 2 dX0_pacesFrom_29 (by decide) ?_
            refine z_icmp_gt (pc := 30) gX 61 dX0_pacesFrom_30 (by decide) (fun c30 => ?_) (fun c30 => ?_)
            · skip
              have k30 : 2 < v := (zn_lt (a := 2) (b := v) (by omega) (by omega)).mp c30
              exact z_vret gX hQX (tf2, bf2, x2 4, h2) (⟨hT2, by rw [show (P + 1) * 3 = (3 * P + v) * 1 by omega]; exact hR2, ht2⟩) rfl (by simp only [← hx2]) (by first | decide | omega) (by first | decide | omega) dX0_pacesFrom_61
            · skip
              have k30 : v ≤ 2 := (zn_nlt (a := 2) (b := v) (by omega) (by omega)).mp c30
              refine z_aload_n (pc := 33) gX 0 dX0_pacesFrom_33 rfl rfl ?_
              refine z_get (pc := 34) gX (zI_ok gX hAX) (zm 0 rfl) (ci := 0) (C := RX0) (T := TX0) (N := 14) rfl in_X0 11 (by decide) q220 (fun _ h => h) (v := .ref (ad 4)) rfl dX0_pacesFrom_34 ?_
              refine z_iload_n (pc := 37) gX 1 dX0_pacesFrom_37 rfl rfl ?_
              refine z_iload (pc := 38) gX 5 dX0_pacesFrom_38 rfl ?_
              refine z_iast (pc := 40) gX hAX 1 (j := at_) (n := 6) (f := tf2) rfl (by omega) (by decide) [cOb o ad (sa 0) (sb 0) tr x2, [(ad 4, .inl (D.1 100, 6, .inl (upd tf2 at_ (nI v))))], [(ad 5, .inl (D.1 100, 6, .inl bf2))], [(sa 0, .inr (2, [.int (c 16), .int (c 1), .int (c 0), .int wn, .ref (sa 1), .ref (sa 2), .ref (sa 3), .ref (sa 4)]))], [(sa 1, .inr (16, [.int md, .ref d, .int (nI n)]))], [(sa 2, .inl (D.1 100, 7, .inl (fun i_ => c (9 + i_))))], [(sa 3, .inl (D.1 100, 7, .inl (fun i_ => c (2 + i_))))], [(sa 4, .inl (D.1 100, 7, .inl od))], [(d, .inl (D.1 104, 10, .inr (.inr (.inr (.inr (rF ra n))))))], thP D sb h2, T] rfl dX0_pacesFrom_40 ?_
              refine z_aload_n (pc := 41) gX 0 dX0_pacesFrom_41 rfl rfl ?_
              refine z_iload_n (pc := 42) gX 1 dX0_pacesFrom_42 rfl rfl ?_
              refine z_iconst (pc := 43) gX 1 dX0_pacesFrom_43 (by decide) ?_
              refine z_iadd (pc := 44) gX dX0_pacesFrom_44 ?_
              refine z_top (nI (at_ + 1)) (nI_add at_ 1) ?_
              refine z_iload_n (pc := 45) gX 2 dX0_pacesFrom_45 rfl rfl ?_
              refine z_iload (pc := 46) gX 5 dX0_pacesFrom_46 rfl ?_
              refine z_iadd (pc := 48) gX dX0_pacesFrom_48 ?_
              refine z_top (nI (sm + v)) (nI_add sm v) ?_
              refine z_iload_n (pc := 49) gX 3 dX0_pacesFrom_49 rfl rfl ?_
              refine z_iload (pc := 50) gX 4 dX0_pacesFrom_50 rfl ?_
              refine z_cMV (pc := 52) gX hAX [.int (nI (at_ + 1)), .int (nI (sm + v)), .int (nI j), .int (nI nn)] [] [0, 1, 2, 3, 4, 5, 6, 7, 8, 9, 10] [] (fun A1 => met_pacesR_0 l D B0 A1 o ad sa sb tr x2 wn md d n c od ra T k h2 (upd tf2 at_ (nI v)) bf2 j nn (3 * P + v) (at_ + 1) (sm + v) hG ht2 hj hnn (by omega) (by rw [Nat.pow_succ]; omega) (by rw [rnS_s (by omega), hsm]) (pcT_s hT2 (by omega)) hR2) q1031 q1033 qs24 q47 q1034 (zm 0 rfl) (ci := 0) rfl rfl hd_X0_pacesFrom ⟨rfl, rfl⟩ ⟨(Nat.le_of_ble_eq_true rfl), (Nat.le_of_ble_eq_true rfl)⟩ rfl rfl (zpl 11 rfl (by decide +kernel)) rfl rfl (Nat.le_of_ble_eq_true rfl) ⟨(by first | decide | (simp only [zRm]; omega)), (by first | decide | (simp only [zRm]; omega))⟩ dX0_pacesFrom_52 ?_
              intro u52 hu52
              obtain ⟨tf1_52, bf1_52, l1_52, ht1_52⟩ := u52
              have hu52 : pcT (at_ + 1) (3 * P + v) tf1_52 ∧ pcR n k c j nn (((3 * P + v) + 1) * 1) l1_52 bf1_52 ∧ tOK ht1_52 := hu52
              refine z_re [0, 1, 2, 3, 4, 5, 6, 7, 8, 9, 10] [cOb o ad (sa 0) (sb 0) tr (upd x2 4 l1_52), [(ad 4, .inl (D.1 100, 6, .inl tf1_52))], [(ad 5, .inl (D.1 100, 6, .inl bf1_52))], [(sa 0, .inr (2, [.int (c 16), .int (c 1), .int (c 0), .int wn, .ref (sa 1), .ref (sa 2), .ref (sa 3), .ref (sa 4)]))], [(sa 1, .inr (16, [.int md, .ref d, .int (nI n)]))], [(sa 2, .inl (D.1 100, 7, .inl (fun i_ => c (9 + i_))))], [(sa 3, .inl (D.1 100, 7, .inl (fun i_ => c (2 + i_))))], [(sa 4, .inl (D.1 100, 7, .inl od))], [(d, .inl (D.1 104, 10, .inr (.inr (.inr (.inr (rF ra n))))))], thP D sb ht1_52, T] rfl (zpl 11 rfl (by decide +kernel)) ?_
              refine z_norm [cOb o ad (sa 0) (sb 0) tr (upd x2 4 l1_52), [(ad 4, .inl (D.1 100, 6, .inl tf1_52))], [(ad 5, .inl (D.1 100, 6, .inl bf1_52))], [(sa 0, .inr (2, [.int (c 16), .int (c 1), .int (c 0), .int wn, .ref (sa 1), .ref (sa 2), .ref (sa 3), .ref (sa 4)]))], [(sa 1, .inr (16, [.int md, .ref d, .int (nI n)]))], [(sa 2, .inl (D.1 100, 7, .inl (fun i_ => c (9 + i_))))], [(sa 3, .inl (D.1 100, 7, .inl (fun i_ => c (2 + i_))))], [(sa 4, .inl (D.1 100, 7, .inl od))], [(d, .inl (D.1 104, 10, .inr (.inr (.inr (.inr (rF ra n))))))], thP D sb ht1_52, T] (1 * v + 1) (10 * v + 10) ?_ rfl rfl rfl
              refine z_eq (lv₂ := [(0, .ref o), (1, .int (nI at_)), (2, .int (nI sm)), (3, .int (nI j)), (4, .int (nI nn)), (5, .int (nI v))]) (st₂ := []) ?_ rfl rfl
              refine z_iinc (pc := 55) gX 5 (nI (v + 1)) [1, 2, 3, 4, 5, 0] [(0, .ref o), (1, .int (nI at_)), (2, .int (nI sm)), (3, .int (nI j)), (4, .int (nI nn)), (5, .int (nI (v + 1)))] dX0_pacesFrom_55 rfl (nI_1 _) (by decide) rfl ?_
              refine z_goto (pc := 58) gX 27 dX0_pacesFrom_58 (by decide) ?_
              refine z_widen (k := 1 * (v + 1)) (n := 10 * (v + 1)) (by omega) (by omega) ?_
              exact ih27 (v + 1) (upd x2 4 l1_52) tf1_52 bf1_52 ht1_52 (by omega) (by rw [pk_us, hx2, upd_upd]) (pcT_p hu52.1 (by omega)) (by rw [pk_us, show (3 * P + (v + 1)) * 1 = (3 * P + v + 1) * 1 by omega]; exact hu52.2.1) hu52.2.2 (by omega)
        refine z_widen (k := 1 * 0) (n := 10 * 0) (by omega) (by omega) ?_
        exact L27 ((3 - 0) + 1) 0 x tf bf ht (by omega) ((upd_self _ _).symm) hT (by rw [show (3 * P + 0) * 1 = P * 3 by omega]; exact hR) ht0 (Nat.lt_succ_self _)
    · skip
      exact z_vret gX hQX (tf, bf, x 4, ht) (⟨hT, pc_cut ham rfl hnn hP hR c6 (by rw [← hsm]; exact c14), ht0⟩) rfl (by simp only [upd_self]) (by first | decide | omega) (by first | decide | omega) dX0_pacesFrom_17

set_option maxHeartbeats 4000000 in
theorem met_pacesR_2 (l : Launch) (D : va_G) (B0 : Nat) (A : Nat → Prop) (o : Nat) (ad : Nat → Nat) (sa : Nat → Nat) (sb : Nat → Nat) (tr : Nat) (x : Nat → Int32) (wn : Int32) (md : Int32) (d : Nat) (n : Nat) (c : Nat → Int32) (od : Nat → Int32) (ra : Nat → Nat) (T : va_W) (k : Nat) (ht : sT) (tf : Nat → Int32) (bf : Nat → Int32) (j : Nat) (nn : Nat) (P : Nat) (at_ : Nat) (sm : Nat) (hG : gOK T n k ra c) (ht0 : tOK ht) (hj : j < n) (hnn : nn ≤ 6) (ham : at_ + 2 = nn) (hP : P < 3 ^ at_) (hsm : sm = rnS at_ P at_) (hT : pcT at_ P tf) (hR : pcR n k c j nn (P * 9) (x 4) bf) : Met l yX0_pacesFrom (ws_ yX0_pacesFrom cX0_pacesFrom 6 none) (zRm 12 9 90) (va_Pc [.ref o, .int (nI at_), .int (nI sm), .int (nI j), .int (nI nn)] (zPre B0 D A [cOb o ad (sa 0) (sb 0) tr x, [(ad 4, .inl (D.1 100, 6, .inl tf))], [(ad 5, .inl (D.1 100, 6, .inl bf))], [(sa 0, .inr (2, [.int (c 16), .int (c 1), .int (c 0), .int wn, .ref (sa 1), .ref (sa 2), .ref (sa 3), .ref (sa 4)]))], [(sa 1, .inr (16, [.int md, .ref d, .int (nI n)]))], [(sa 2, .inl (D.1 100, 7, .inl (fun i_ => c (9 + i_))))], [(sa 3, .inl (D.1 100, 7, .inl (fun i_ => c (2 + i_))))], [(sa 4, .inl (D.1 100, 7, .inl od))], [(d, .inl (D.1 104, 10, .inr (.inr (.inr (.inr (rF ra n))))))], thP D sb ht, T])) (zQ (S := (Nat → Int32) × (Nat → Int32) × Int32 × sT) (fun u => (fun (tf1 : Nat → Int32) (bf1 : Nat → Int32) (l1 : Int32) (ht1 : sT) => pcT at_ P tf1 ∧ pcR n k c j nn ((P + 1) * 9) l1 bf1 ∧ tOK ht1) u.1 u.2.1 u.2.2.1 u.2.2.2) (fun u => (fun (tf1 : Nat → Int32) (bf1 : Nat → Int32) (l1 : Int32) (ht1 : sT) => none) u.1 u.2.1 u.2.2.1 u.2.2.2) (fun u => (fun (tf1 : Nat → Int32) (bf1 : Nat → Int32) (l1 : Int32) (ht1 : sT) => [cOb o ad (sa 0) (sb 0) tr (upd x 4 l1), [(ad 4, .inl (D.1 100, 6, .inl tf1))], [(ad 5, .inl (D.1 100, 6, .inl bf1))], [(sa 0, .inr (2, [.int (c 16), .int (c 1), .int (c 0), .int wn, .ref (sa 1), .ref (sa 2), .ref (sa 3), .ref (sa 4)]))], [(sa 1, .inr (16, [.int md, .ref d, .int (nI n)]))], [(sa 2, .inl (D.1 100, 7, .inl (fun i_ => c (9 + i_))))], [(sa 3, .inl (D.1 100, 7, .inl (fun i_ => c (2 + i_))))], [(sa 4, .inl (D.1 100, 7, .inl od))], [(d, .inl (D.1 104, 10, .inr (.inr (.inr (.inr (rF ra n))))))], thP D sb ht1, T]) u.1 u.2.1 u.2.2.1 u.2.2.2) D A) 9 90 A := by
  refine z_entry (by decide +kernel) (Nat.le_of_ble_eq_true rfl) (fun pX eX sX mX argsX blX mtX cX QX hQX gX hAX hnm => ?_)
  refine z_eq (lv₂ := [(0, .ref o), (1, .int (nI at_)), (2, .int (nI sm)), (3, .int (nI j)), (4, .int (nI nn))]) (st₂ := []) ?_ rfl rfl
  have hK := hG.k
  have hn7 := hG.2.1
  have hsl : sm ≤ 12 := by have := rnS_le at_ P at_; omega
  refine z_aload_n (pc := 0) gX 0 dX0_pacesFrom_0 rfl rfl ?_
  refine z_get (pc := 1) gX (zI_ok gX hAX) (zm 0 rfl) (ci := 0) (C := RX0) (T := TX0) (N := 14) rfl in_X0 13 (by decide) q222 (fun _ h => h) (v := .int (x 4)) rfl dX0_pacesFrom_1 ?_
  refine z_ldc (pc := 4) gX q1003 dX0_pacesFrom_4 ?_
  refine z_icmp_eq (pc := 6) gX 18 dX0_pacesFrom_6 (by decide) (fun c6 => ?_) (fun c6 => ?_)
  · skip
    refine z_iload_n (pc := 18) gX 1 dX0_pacesFrom_18 rfl rfl ?_
    refine z_iload (pc := 19) gX 4 dX0_pacesFrom_19 rfl ?_
    refine z_icmp_ge (pc := 21) gX 62 dX0_pacesFrom_21 (by decide) (fun c21 => ?_) (fun c21 => ?_)
    · skip
      have k21 : nn ≤ at_ := (zn_le (a := nn) (b := at_) (by omega) (by omega)).mp c21
      exact absurd k21 (by omega)
    · skip
      have k21 : at_ < nn := (zn_nle (a := nn) (b := at_) (by omega) (by omega)).mp c21
      refine z_iconst (pc := 24) gX 0 dX0_pacesFrom_24 (by decide) ?_
      refine z_istore (pc := 25) gX [1, 2, 3, 4, 5, 0] [(0, .ref o), (1, .int (nI at_)), (2, .int (nI sm)), (3, .int (nI j)), (4, .int (nI nn)), (5, .int 0)] dX0_pacesFrom_25 (by decide) rfl ?_
      have L27 : ∀ (n27 : Nat) (v : Nat) (x2 : Nat → Int32) (tf2 : Nat → Int32) (bf2 : Nat → Int32) (h2 : sT), (v ≤ 3) → (x2 = upd x 4 (x2 4)) → (pcT at_ P tf2) → (pcR n k c j nn ((3 * P + v) * 3) (x2 4) bf2) → (tOK h2) → 3 - v < n27 → zJ pX l eX (zRm 12 9 90) sX mX argsX blX mtX cX QX 6 (zI D A sX [cOb o ad (sa 0) (sb 0) tr x2, [(ad 4, .inl (D.1 100, 6, .inl tf2))], [(ad 5, .inl (D.1 100, 6, .inl bf2))], [(sa 0, .inr (2, [.int (c 16), .int (c 1), .int (c 0), .int wn, .ref (sa 1), .ref (sa 2), .ref (sa 3), .ref (sa 4)]))], [(sa 1, .inr (16, [.int md, .ref d, .int (nI n)]))], [(sa 2, .inl (D.1 100, 7, .inl (fun i_ => c (9 + i_))))], [(sa 3, .inl (D.1 100, 7, .inl (fun i_ => c (2 + i_))))], [(sa 4, .inl (D.1 100, 7, .inl od))], [(d, .inl (D.1 104, 10, .inr (.inr (.inr (.inr (rF ra n))))))], thP D sb h2, T]) (3 * v) (30 * v) 27 [(0, .ref o), (1, .int (nI at_)), (2, .int (nI sm)), (3, .int (nI j)), (4, .int (nI nn)), (5, .int (nI v))] [] := by
        intro n27
        induction n27 with
        | zero => exact fun v x2 tf2 bf2 h2 hv hx2 hT2 hR2 ht2 hm27 => absurd hm27 (Nat.not_lt_zero _)
        | succ n27 ih27 =>
          intro v x2 tf2 bf2 h2 hv hx2 hT2 hR2 ht2 hm27
          refine z_iload (pc := 27) gX 5 dX0_pacesFrom_27 rfl ?_
          refine z_iconst (pc := 29) gX 2 dX0_pacesFrom_29 (by decide) ?_
          refine z_icmp_gt (pc := 30) gX 61 dX0_pacesFrom_30 (by decide) (fun c30 => ?_) (fun c30 => ?_)
          · skip
            have k30 : 2 < v := (zn_lt (a := 2) (b := v) (by omega) (by omega)).mp c30
            exact z_vret gX hQX (tf2, bf2, x2 4, h2) (⟨hT2, by rw [show (P + 1) * 9 = (3 * P + v) * 3 by omega]; exact hR2, ht2⟩) rfl (by simp only [← hx2]) (by first | decide | omega) (by first | decide | omega) dX0_pacesFrom_61
          · skip
            have k30 : v ≤ 2 := (zn_nlt (a := 2) (b := v) (by omega) (by omega)).mp c30
            refine z_aload_n (pc := 33) gX 0 dX0_pacesFrom_33 rfl rfl ?_
            refine z_get (pc := 34) gX (zI_ok gX hAX) (zm 0 rfl) (ci := 0) (C := RX0) (T := TX0) (N := 14) rfl in_X0 11 (by decide) q220 (fun _ h => h) (v := .ref (ad 4)) rfl dX0_pacesFrom_34 ?_
            refine z_iload_n (pc := 37) gX 1 dX0_pacesFrom_37 rfl rfl ?_
            refine z_iload (pc := 38) gX 5 dX0_pacesFrom_38 rfl ?_
            refine z_iast (pc := 40) gX hAX 1 (j := at_) (n := 6) (f := tf2) rfl (by omega) (by decide) [cOb o ad (sa 0) (sb 0) tr x2, [(ad 4, .inl (D.1 100, 6, .inl (upd tf2 at_ (nI v))))], [(ad 5, .inl (D.1 100, 6, .inl bf2))], [(sa 0, .inr (2, [.int (c 16), .int (c 1), .int (c 0), .int wn, .ref (sa 1), .ref (sa 2), .ref (sa 3), .ref (sa 4)]))], [(sa 1, .inr (16, [.int md, .ref d, .int (nI n)]))], [(sa 2, .inl (D.1 100, 7, .inl (fun i_ => c (9 + i_))))], [(sa 3, .inl (D.1 100, 7, .inl (fun i_ => c (2 + i_))))], [(sa 4, .inl (D.1 100, 7, .inl od))], [(d, .inl (D.1 104, 10, .inr (.inr (.inr (.inr (rF ra n))))))], thP D sb h2, T] rfl dX0_pacesFrom_40 ?_
            refine z_aload_n (pc := 41) gX 0 dX0_pacesFrom_41 rfl rfl ?_
            refine z_iload_n (pc := 42) gX 1 dX0_pacesFrom_42 rfl rfl ?_
            refine z_iconst (pc := 43) gX 1 dX0_pacesFrom_43 (by decide) ?_
            refine z_iadd (pc := 44) gX dX0_pacesFrom_44 ?_
            refine z_top (nI (at_ + 1)) (nI_add at_ 1) ?_
            refine z_iload_n (pc := 45) gX 2 dX0_pacesFrom_45 rfl rfl ?_
            refine z_iload (pc := 46) gX 5 dX0_pacesFrom_46 rfl ?_
            refine z_iadd (pc := 48) gX dX0_pacesFrom_48 ?_
            refine z_top (nI (sm + v)) (nI_add sm v) ?_
            refine z_iload_n (pc := 49) gX 3 dX0_pacesFrom_49 rfl rfl ?_
            refine z_iload (pc := 50) gX 4 dX0_pacesFrom_50 rfl ?_
            refine z_cMV (pc := 52) gX hAX [.int (nI (at_ + 1)), .int (nI (sm + v)), .int (nI j), .int (nI nn)] [] [0, 1, 2, 3, 4, 5, 6, 7, 8, 9, 10] [] (fun A1 => met_pacesR_1 l D B0 A1 o ad sa sb tr x2 wn md d n c od ra T k h2 (upd tf2 at_ (nI v)) bf2 j nn (3 * P + v) (at_ + 1) (sm + v) hG ht2 hj hnn (by omega) (by rw [Nat.pow_succ]; omega) (by rw [rnS_s (by omega), hsm]) (pcT_s hT2 (by omega)) hR2) q1031 q1033 qs24 q47 q1034 (zm 0 rfl) (ci := 0) rfl rfl hd_X0_pacesFrom ⟨rfl, rfl⟩ ⟨(Nat.le_of_ble_eq_true rfl), (Nat.le_of_ble_eq_true rfl)⟩ rfl rfl (zpl 11 rfl (by decide +kernel)) rfl rfl (Nat.le_of_ble_eq_true rfl) ⟨(by first | decide | (simp only [zRm]; omega)), (by first | decide | (simp only [zRm]; omega))⟩ dX0_pacesFrom_52 ?_
            intro u52 hu52
            obtain ⟨tf1_52, bf1_52, l1_52, ht1_52⟩ := u52
            have hu52 : pcT (at_ + 1) (3 * P + v) tf1_52 ∧ pcR n k c j nn (((3 * P + v) + 1) * 3) l1_52 bf1_52 ∧ tOK ht1_52 := hu52
            refine z_re [0, 1, 2, 3, 4, 5, 6, 7, 8, 9, 10] [cOb o ad (sa 0) (sb 0) tr (upd x2 4 l1_52), [(ad 4, .inl (D.1 100, 6, .inl tf1_52))], [(ad 5, .inl (D.1 100, 6, .inl bf1_52))], [(sa 0, .inr (2, [.int (c 16), .int (c 1), .int (c 0), .int wn, .ref (sa 1), .ref (sa 2), .ref (sa 3), .ref (sa 4)]))], [(sa 1, .inr (16, [.int md, .ref d, .int (nI n)]))], [(sa 2, .inl (D.1 100, 7, .inl (fun i_ => c (9 + i_))))], [(sa 3, .inl (D.1 100, 7, .inl (fun i_ => c (2 + i_))))], [(sa 4, .inl (D.1 100, 7, .inl od))], [(d, .inl (D.1 104, 10, .inr (.inr (.inr (.inr (rF ra n))))))], thP D sb ht1_52, T] rfl (zpl 11 rfl (by decide +kernel)) ?_
            refine z_norm [cOb o ad (sa 0) (sb 0) tr (upd x2 4 l1_52), [(ad 4, .inl (D.1 100, 6, .inl tf1_52))], [(ad 5, .inl (D.1 100, 6, .inl bf1_52))], [(sa 0, .inr (2, [.int (c 16), .int (c 1), .int (c 0), .int wn, .ref (sa 1), .ref (sa 2), .ref (sa 3), .ref (sa 4)]))], [(sa 1, .inr (16, [.int md, .ref d, .int (nI n)]))], [(sa 2, .inl (D.1 100, 7, .inl (fun i_ => c (9 + i_))))], [(sa 3, .inl (D.1 100, 7, .inl (fun i_ => c (2 + i_))))], [(sa 4, .inl (D.1 100, 7, .inl od))], [(d, .inl (D.1 104, 10, .inr (.inr (.inr (.inr (rF ra n))))))], thP D sb ht1_52, T] (3 * v + 3) (30 * v + 30) ?_ rfl rfl rfl
            refine z_eq (lv₂ := [(0, .ref o), (1, .int (nI at_)), (2, .int (nI sm)), (3, .int (nI j)), (4, .int (nI nn)), (5, .int (nI v))]) (st₂ := []) ?_ rfl rfl
            refine z_iinc (pc := 55) gX 5 (nI (v + 1)) [1, 2, 3, 4, 5, 0] [(0, .ref o), (1, .int (nI at_)), (2, .int (nI sm)), (3, .int (nI j)), (4, .int (nI nn)), (5, .int (nI (v + 1)))] dX0_pacesFrom_55 rfl (nI_1 _) (by decide) rfl ?_
            refine z_goto (pc := 58) gX 27 dX0_pacesFrom_58 (by decide) ?_
            refine z_widen (k := 3 * (v + 1)) (n := 30 * (v + 1)) (by omega) (by omega) ?_
            exact ih27 (v + 1) (upd x2 4 l1_52) tf1_52 bf1_52 ht1_52 (by omega) (by rw [pk_us, hx2, upd_upd]) (pcT_p hu52.1 (by omega)) (by rw [pk_us, show (3 * P + (v + 1)) * 3 = (3 * P + v + 1) * 3 by omega]; exact hu52.2.1) hu52.2.2 (by omega)
      refine z_widen (k := 3 * 0) (n := 30 * 0) (by omega) (by omega) ?_
      exact L27 ((3 - 0) + 1) 0 x tf bf ht (by omega) ((upd_self _ _).symm) hT (by rw [show (3 * P + 0) * 3 = P * 9 by omega]; exact hR) ht0 (Nat.lt_succ_self _)
  · skip
    refine z_iload_n (pc := 9) gX 2 dX0_pacesFrom_9 rfl rfl ?_
    refine z_aload_n (pc := 10) gX 0 dX0_pacesFrom_10 rfl rfl ?_
    refine z_get (pc := 11) gX (zI_ok gX hAX) (zm 0 rfl) (ci := 0) (C := RX0) (T := TX0) (N := 14) rfl in_X0 13 (by decide) q222 (fun _ h => h) (v := .int (x 4)) rfl dX0_pacesFrom_11 ?_
    refine z_icmp_lt (pc := 14) gX 18 dX0_pacesFrom_14 (by decide) (fun c14 => ?_) (fun c14 => ?_)
    · skip
      refine z_iload_n (pc := 18) gX 1 dX0_pacesFrom_18 rfl rfl ?_
      refine z_iload (pc := 19) gX 4 dX0_pacesFrom_19 rfl ?_
      refine z_icmp_ge (pc := 21) gX 62 dX0_pacesFrom_21 (by decide) (fun c21 => ?_) (fun c21 => ?_)
      · skip
        have k21 : nn ≤ at_ := (zn_le (a := nn) (b := at_) (by omega) (by omega)).mp c21
        exact absurd k21 (by omega)
      · skip
        have k21 : at_ < nn := (zn_nle (a := nn) (b := at_) (by omega) (by omega)).mp c21
        refine z_iconst (pc := 24) gX 0 dX0_pacesFrom_24 (by decide) ?_
        refine z_istore (pc := 25) gX [1, 2, 3, 4, 5, 0] [(0, .ref o), (1, .int (nI at_)), (2, .int (nI sm)), (3, .int (nI j)), (4, .int (nI nn)), (5, .int 0)] dX0_pacesFrom_25 (by decide) rfl ?_
        have L27 : ∀ (n27 : Nat) (v : Nat) (x2 : Nat → Int32) (tf2 : Nat → Int32) (bf2 : Nat → Int32) (h2 : sT), (v ≤ 3) → (x2 = upd x 4 (x2 4)) → (pcT at_ P tf2) → (pcR n k c j nn ((3 * P + v) * 3) (x2 4) bf2) → (tOK h2) → 3 - v < n27 → zJ pX l eX (zRm 12 9 90) sX mX argsX blX mtX cX QX 6 (zI D A sX [cOb o ad (sa 0) (sb 0) tr x2, [(ad 4, .inl (D.1 100, 6, .inl tf2))], [(ad 5, .inl (D.1 100, 6, .inl bf2))], [(sa 0, .inr (2, [.int (c 16), .int (c 1), .int (c 0), .int wn, .ref (sa 1), .ref (sa 2), .ref (sa 3), .ref (sa 4)]))], [(sa 1, .inr (16, [.int md, .ref d, .int (nI n)]))], [(sa 2, .inl (D.1 100, 7, .inl (fun i_ => c (9 + i_))))], [(sa 3, .inl (D.1 100, 7, .inl (fun i_ => c (2 + i_))))], [(sa 4, .inl (D.1 100, 7, .inl od))], [(d, .inl (D.1 104, 10, .inr (.inr (.inr (.inr (rF ra n))))))], thP D sb h2, T]) (3 * v) (30 * v) 27 [(0, .ref o), (1, .int (nI at_)), (2, .int (nI sm)), (3, .int (nI j)), (4, .int (nI nn)), (5, .int (nI v))] [] := by
          intro n27
          induction n27 with
          | zero => exact fun v x2 tf2 bf2 h2 hv hx2 hT2 hR2 ht2 hm27 => absurd hm27 (Nat.not_lt_zero _)
          | succ n27 ih27 =>
            intro v x2 tf2 bf2 h2 hv hx2 hT2 hR2 ht2 hm27
            refine z_iload (pc := 27) gX 5 dX0_pacesFrom_27 rfl ?_
            refine z_iconst (pc := 29) gX 2 dX0_pacesFrom_29 (by decide) ?_
            refine z_icmp_gt (pc := 30) gX 61 dX0_pacesFrom_30 (by decide) (fun c30 => ?_) (fun c30 => ?_)
            · skip
              have k30 : 2 < v := (zn_lt (a := 2) (b := v) (by omega) (by omega)).mp c30
              exact z_vret gX hQX (tf2, bf2, x2 4, h2) (⟨hT2, by rw [show (P + 1) * 9 = (3 * P + v) * 3 by omega]; exact hR2, ht2⟩) rfl (by simp only [← hx2]) (by first | decide | omega) (by first | decide | omega) dX0_pacesFrom_61
            · skip
              have k30 : v ≤ 2 := (zn_nlt (a := 2) (b := v) (by omega) (by omega)).mp c30
              refine z_aload_n (pc := 33) gX 0 dX0_pacesFrom_33 rfl rfl ?_
              refine z_get (pc := 34) gX (zI_ok gX hAX) (zm 0 rfl) (ci := 0) (C := RX0) (T := TX0) (N := 14) rfl in_X0 11 (by decide) q220 (fun _ h => h) (v := .ref (ad 4)) rfl dX0_pacesFrom_34 ?_
              refine z_iload_n (pc := 37) gX 1 dX0_pacesFrom_37 rfl rfl ?_
              refine z_iload (pc := 38) gX 5 dX0_pacesFrom_38 rfl ?_
              refine z_iast (pc := 40) gX hAX 1 (j := at_) (n := 6) (f := tf2) rfl (by omega) (by decide) [cOb o ad (sa 0) (sb 0) tr x2, [(ad 4, .inl (D.1 100, 6, .inl (upd tf2 at_ (nI v))))], [(ad 5, .inl (D.1 100, 6, .inl bf2))], [(sa 0, .inr (2, [.int (c 16), .int (c 1), .int (c 0), .int wn, .ref (sa 1), .ref (sa 2), .ref (sa 3), .ref (sa 4)]))], [(sa 1, .inr (16, [.int md, .ref d, .int (nI n)]))], [(sa 2, .inl (D.1 100, 7, .inl (fun i_ => c (9 + i_))))], [(sa 3, .inl (D.1 100, 7, .inl (fun i_ => c (2 + i_))))], [(sa 4, .inl (D.1 100, 7, .inl od))], [(d, .inl (D.1 104, 10, .inr (.inr (.inr (.inr (rF ra n))))))], thP D sb h2, T] rfl dX0_pacesFrom_40 ?_
              refine z_aload_n (pc := 41) gX 0 dX0_pacesFrom_41 rfl rfl ?_
              refine z_iload_n (pc := 42) gX 1 dX0_pacesFrom_42 rfl rfl ?_
              refine z_iconst (pc := 43) gX 1 dX0_pacesFrom_43 (by decide) ?_
              refine z_iadd (pc := 44) gX dX0_pacesFrom_44 ?_
              refine z_top (nI (at_ + 1)) (nI_add at_ 1) ?_
              refine z_iload_n (pc := 45) gX 2 dX0_pacesFrom_45 rfl rfl ?_
              refine z_iload (pc := 46) gX 5 dX0_pacesFrom_46 rfl ?_
              refine z_iadd (pc := 48) gX dX0_pacesFrom_48 ?_
              refine z_top (nI (sm + v)) (nI_add sm v) ?_
              refine z_iload_n (pc := 49) gX 3 dX0_pacesFrom_49 rfl rfl ?_
              refine z_iload (pc := 50) gX 4 dX0_pacesFrom_50 rfl ?_
              refine z_cMV (pc := 52) gX hAX [.int (nI (at_ + 1)), .int (nI (sm + v)), .int (nI j), .int (nI nn)] [] [0, 1, 2, 3, 4, 5, 6, 7, 8, 9, 10] [] (fun A1 => met_pacesR_1 l D B0 A1 o ad sa sb tr x2 wn md d n c od ra T k h2 (upd tf2 at_ (nI v)) bf2 j nn (3 * P + v) (at_ + 1) (sm + v) hG ht2 hj hnn (by omega) (by rw [Nat.pow_succ]; omega) (by rw [rnS_s (by omega), hsm]) (pcT_s hT2 (by omega)) hR2) q1031 q1033 qs24 q47 q1034 (zm 0 rfl) (ci := 0) rfl rfl hd_X0_pacesFrom ⟨rfl, rfl⟩ ⟨(Nat.le_of_ble_eq_true rfl), (Nat.le_of_ble_eq_true rfl)⟩ rfl rfl (zpl 11 rfl (by decide +kernel)) rfl rfl (Nat.le_of_ble_eq_true rfl) ⟨(by first | decide | (simp only [zRm]; omega)), (by first | decide | (simp only [zRm]; omega))⟩ dX0_pacesFrom_52 ?_
              intro u52 hu52
              obtain ⟨tf1_52, bf1_52, l1_52, ht1_52⟩ := u52
              have hu52 : pcT (at_ + 1) (3 * P + v) tf1_52 ∧ pcR n k c j nn (((3 * P + v) + 1) * 3) l1_52 bf1_52 ∧ tOK ht1_52 := hu52
              refine z_re [0, 1, 2, 3, 4, 5, 6, 7, 8, 9, 10] [cOb o ad (sa 0) (sb 0) tr (upd x2 4 l1_52), [(ad 4, .inl (D.1 100, 6, .inl tf1_52))], [(ad 5, .inl (D.1 100, 6, .inl bf1_52))], [(sa 0, .inr (2, [.int (c 16), .int (c 1), .int (c 0), .int wn, .ref (sa 1), .ref (sa 2), .ref (sa 3), .ref (sa 4)]))], [(sa 1, .inr (16, [.int md, .ref d, .int (nI n)]))], [(sa 2, .inl (D.1 100, 7, .inl (fun i_ => c (9 + i_))))], [(sa 3, .inl (D.1 100, 7, .inl (fun i_ => c (2 + i_))))], [(sa 4, .inl (D.1 100, 7, .inl od))], [(d, .inl (D.1 104, 10, .inr (.inr (.inr (.inr (rF ra n))))))], thP D sb ht1_52, T] rfl (zpl 11 rfl (by decide +kernel)) ?_
              refine z_norm [cOb o ad (sa 0) (sb 0) tr (upd x2 4 l1_52), [(ad 4, .inl (D.1 100, 6, .inl tf1_52))], [(ad 5, .inl (D.1 100, 6, .inl bf1_52))], [(sa 0, .inr (2, [.int (c 16), .int (c 1), .int (c 0), .int wn, .ref (sa 1), .ref (sa 2), .ref (sa 3), .ref (sa 4)]))], [(sa 1, .inr (16, [.int md, .ref d, .int (nI n)]))], [(sa 2, .inl (D.1 100, 7, .inl (fun i_ => c (9 + i_))))], [(sa 3, .inl (D.1 100, 7, .inl (fun i_ => c (2 + i_))))], [(sa 4, .inl (D.1 100, 7, .inl od))], [(d, .inl (D.1 104, 10, .inr (.inr (.inr (.inr (rF ra n))))))], thP D sb ht1_52, T] (3 * v + 3) (30 * v + 30) ?_ rfl rfl rfl
              refine z_eq (lv₂ := [(0, .ref o), (1, .int (nI at_)), (2, .int (nI sm)), (3, .int (nI j)), (4, .int (nI nn)), (5, .int (nI v))]) (st₂ := []) ?_ rfl rfl
              refine z_iinc (pc := 55) gX 5 (nI (v + 1)) [1, 2, 3, 4, 5, 0] [(0, .ref o), (1, .int (nI at_)), (2, .int (nI sm)), (3, .int (nI j)), (4, .int (nI nn)), (5, .int (nI (v + 1)))] dX0_pacesFrom_55 rfl (nI_1 _) (by decide) rfl ?_
              refine z_goto (pc := 58) gX 27 dX0_pacesFrom_58 (by decide) ?_
              refine z_widen (k := 3 * (v + 1)) (n := 30 * (v + 1)) (by omega) (by omega) ?_
              exact ih27 (v + 1) (upd x2 4 l1_52) tf1_52 bf1_52 ht1_52 (by omega) (by rw [pk_us, hx2, upd_upd]) (pcT_p hu52.1 (by omega)) (by rw [pk_us, show (3 * P + (v + 1)) * 3 = (3 * P + v + 1) * 3 by omega]; exact hu52.2.1) hu52.2.2 (by omega)
        refine z_widen (k := 3 * 0) (n := 30 * 0) (by omega) (by omega) ?_
        exact L27 ((3 - 0) + 1) 0 x tf bf ht (by omega) ((upd_self _ _).symm) hT (by rw [show (3 * P + 0) * 3 = P * 9 by omega]; exact hR) ht0 (Nat.lt_succ_self _)
    · skip
      exact z_vret gX hQX (tf, bf, x 4, ht) (⟨hT, pc_cut ham rfl hnn hP hR c6 (by rw [← hsm]; exact c14), ht0⟩) rfl (by simp only [upd_self]) (by first | decide | omega) (by first | decide | omega) dX0_pacesFrom_17

set_option maxHeartbeats 4000000 in
theorem met_pacesR_3 (l : Launch) (D : va_G) (B0 : Nat) (A : Nat → Prop) (o : Nat) (ad : Nat → Nat) (sa : Nat → Nat) (sb : Nat → Nat) (tr : Nat) (x : Nat → Int32) (wn : Int32) (md : Int32) (d : Nat) (n : Nat) (c : Nat → Int32) (od : Nat → Int32) (ra : Nat → Nat) (T : va_W) (k : Nat) (ht : sT) (tf : Nat → Int32) (bf : Nat → Int32) (j : Nat) (nn : Nat) (P : Nat) (at_ : Nat) (sm : Nat) (hG : gOK T n k ra c) (ht0 : tOK ht) (hj : j < n) (hnn : nn ≤ 6) (ham : at_ + 3 = nn) (hP : P < 3 ^ at_) (hsm : sm = rnS at_ P at_) (hT : pcT at_ P tf) (hR : pcR n k c j nn (P * 27) (x 4) bf) : Met l yX0_pacesFrom (ws_ yX0_pacesFrom cX0_pacesFrom 6 none) (zRm 13 27 270) (va_Pc [.ref o, .int (nI at_), .int (nI sm), .int (nI j), .int (nI nn)] (zPre B0 D A [cOb o ad (sa 0) (sb 0) tr x, [(ad 4, .inl (D.1 100, 6, .inl tf))], [(ad 5, .inl (D.1 100, 6, .inl bf))], [(sa 0, .inr (2, [.int (c 16), .int (c 1), .int (c 0), .int wn, .ref (sa 1), .ref (sa 2), .ref (sa 3), .ref (sa 4)]))], [(sa 1, .inr (16, [.int md, .ref d, .int (nI n)]))], [(sa 2, .inl (D.1 100, 7, .inl (fun i_ => c (9 + i_))))], [(sa 3, .inl (D.1 100, 7, .inl (fun i_ => c (2 + i_))))], [(sa 4, .inl (D.1 100, 7, .inl od))], [(d, .inl (D.1 104, 10, .inr (.inr (.inr (.inr (rF ra n))))))], thP D sb ht, T])) (zQ (S := (Nat → Int32) × (Nat → Int32) × Int32 × sT) (fun u => (fun (tf1 : Nat → Int32) (bf1 : Nat → Int32) (l1 : Int32) (ht1 : sT) => pcT at_ P tf1 ∧ pcR n k c j nn ((P + 1) * 27) l1 bf1 ∧ tOK ht1) u.1 u.2.1 u.2.2.1 u.2.2.2) (fun u => (fun (tf1 : Nat → Int32) (bf1 : Nat → Int32) (l1 : Int32) (ht1 : sT) => none) u.1 u.2.1 u.2.2.1 u.2.2.2) (fun u => (fun (tf1 : Nat → Int32) (bf1 : Nat → Int32) (l1 : Int32) (ht1 : sT) => [cOb o ad (sa 0) (sb 0) tr (upd x 4 l1), [(ad 4, .inl (D.1 100, 6, .inl tf1))], [(ad 5, .inl (D.1 100, 6, .inl bf1))], [(sa 0, .inr (2, [.int (c 16), .int (c 1), .int (c 0), .int wn, .ref (sa 1), .ref (sa 2), .ref (sa 3), .ref (sa 4)]))], [(sa 1, .inr (16, [.int md, .ref d, .int (nI n)]))], [(sa 2, .inl (D.1 100, 7, .inl (fun i_ => c (9 + i_))))], [(sa 3, .inl (D.1 100, 7, .inl (fun i_ => c (2 + i_))))], [(sa 4, .inl (D.1 100, 7, .inl od))], [(d, .inl (D.1 104, 10, .inr (.inr (.inr (.inr (rF ra n))))))], thP D sb ht1, T]) u.1 u.2.1 u.2.2.1 u.2.2.2) D A) 27 270 A := by
  refine z_entry (by decide +kernel) (Nat.le_of_ble_eq_true rfl) (fun pX eX sX mX argsX blX mtX cX QX hQX gX hAX hnm => ?_)
  refine z_eq (lv₂ := [(0, .ref o), (1, .int (nI at_)), (2, .int (nI sm)), (3, .int (nI j)), (4, .int (nI nn))]) (st₂ := []) ?_ rfl rfl
  have hK := hG.k
  have hn7 := hG.2.1
  have hsl : sm ≤ 12 := by have := rnS_le at_ P at_; omega
  refine z_aload_n (pc := 0) gX 0 dX0_pacesFrom_0 rfl rfl ?_
  refine z_get (pc := 1) gX (zI_ok gX hAX) (zm 0 rfl) (ci := 0) (C := RX0) (T := TX0) (N := 14) rfl in_X0 13 (by decide) q222 (fun _ h => h) (v := .int (x 4)) rfl dX0_pacesFrom_1 ?_
  refine z_ldc (pc := 4) gX q1003 dX0_pacesFrom_4 ?_
  refine z_icmp_eq (pc := 6) gX 18 dX0_pacesFrom_6 (by decide) (fun c6 => ?_) (fun c6 => ?_)
  · skip
    refine z_iload_n (pc := 18) gX 1 dX0_pacesFrom_18 rfl rfl ?_
    refine z_iload (pc := 19) gX 4 dX0_pacesFrom_19 rfl ?_
    refine z_icmp_ge (pc := 21) gX 62 dX0_pacesFrom_21 (by decide) (fun c21 => ?_) (fun c21 => ?_)
    · skip
      have k21 : nn ≤ at_ := (zn_le (a := nn) (b := at_) (by omega) (by omega)).mp c21
      exact absurd k21 (by omega)
    · skip
      have k21 : at_ < nn := (zn_nle (a := nn) (b := at_) (by omega) (by omega)).mp c21
      refine z_iconst (pc := 24) gX 0 dX0_pacesFrom_24 (by decide) ?_
      refine z_istore (pc := 25) gX [1, 2, 3, 4, 5, 0] [(0, .ref o), (1, .int (nI at_)), (2, .int (nI sm)), (3, .int (nI j)), (4, .int (nI nn)), (5, .int 0)] dX0_pacesFrom_25 (by decide) rfl ?_
      have L27 : ∀ (n27 : Nat) (v : Nat) (x2 : Nat → Int32) (tf2 : Nat → Int32) (bf2 : Nat → Int32) (h2 : sT), (v ≤ 3) → (x2 = upd x 4 (x2 4)) → (pcT at_ P tf2) → (pcR n k c j nn ((3 * P + v) * 9) (x2 4) bf2) → (tOK h2) → 3 - v < n27 → zJ pX l eX (zRm 13 27 270) sX mX argsX blX mtX cX QX 6 (zI D A sX [cOb o ad (sa 0) (sb 0) tr x2, [(ad 4, .inl (D.1 100, 6, .inl tf2))], [(ad 5, .inl (D.1 100, 6, .inl bf2))], [(sa 0, .inr (2, [.int (c 16), .int (c 1), .int (c 0), .int wn, .ref (sa 1), .ref (sa 2), .ref (sa 3), .ref (sa 4)]))], [(sa 1, .inr (16, [.int md, .ref d, .int (nI n)]))], [(sa 2, .inl (D.1 100, 7, .inl (fun i_ => c (9 + i_))))], [(sa 3, .inl (D.1 100, 7, .inl (fun i_ => c (2 + i_))))], [(sa 4, .inl (D.1 100, 7, .inl od))], [(d, .inl (D.1 104, 10, .inr (.inr (.inr (.inr (rF ra n))))))], thP D sb h2, T]) (9 * v) (90 * v) 27 [(0, .ref o), (1, .int (nI at_)), (2, .int (nI sm)), (3, .int (nI j)), (4, .int (nI nn)), (5, .int (nI v))] [] := by
        intro n27
        induction n27 with
        | zero => exact fun v x2 tf2 bf2 h2 hv hx2 hT2 hR2 ht2 hm27 => absurd hm27 (Nat.not_lt_zero _)
        | succ n27 ih27 =>
          intro v x2 tf2 bf2 h2 hv hx2 hT2 hR2 ht2 hm27
          refine z_iload (pc := 27) gX 5 dX0_pacesFrom_27 rfl ?_
          refine z_iconst (pc := 29) gX 2 dX0_pacesFrom_29 (by decide) ?_
          refine z_icmp_gt (pc := 30) gX 61 dX0_pacesFrom_30 (by decide) (fun c30 => ?_) (fun c30 => ?_)
          · skip
            have k30 : 2 < v := (zn_lt (a := 2) (b := v) (by omega) (by omega)).mp c30
            exact z_vret gX hQX (tf2, bf2, x2 4, h2) (⟨hT2, by rw [show (P + 1) * 27 = (3 * P + v) * 9 by omega]; exact hR2, ht2⟩) rfl (by simp only [← hx2]) (by first | decide | omega) (by first | decide | omega) dX0_pacesFrom_61
          · skip
            have k30 : v ≤ 2 := (zn_nlt (a := 2) (b := v) (by omega) (by omega)).mp c30
            refine z_aload_n (pc := 33) gX 0 dX0_pacesFrom_33 rfl rfl ?_
            refine z_get (pc := 34) gX (zI_ok gX hAX) (zm 0 rfl) (ci := 0) (C := RX0) (T := TX0) (N := 14) rfl in_X0 11 (by decide) q220 (fun _ h => h) (v := .ref (ad 4)) rfl dX0_pacesFrom_34 ?_
            refine z_iload_n (pc := 37) gX 1 dX0_pacesFrom_37 rfl rfl ?_
            refine z_iload (pc := 38) gX 5 dX0_pacesFrom_38 rfl ?_
            refine z_iast (pc := 40) gX hAX 1 (j := at_) (n := 6) (f := tf2) rfl (by omega) (by decide) [cOb o ad (sa 0) (sb 0) tr x2, [(ad 4, .inl (D.1 100, 6, .inl (upd tf2 at_ (nI v))))], [(ad 5, .inl (D.1 100, 6, .inl bf2))], [(sa 0, .inr (2, [.int (c 16), .int (c 1), .int (c 0), .int wn, .ref (sa 1), .ref (sa 2), .ref (sa 3), .ref (sa 4)]))], [(sa 1, .inr (16, [.int md, .ref d, .int (nI n)]))], [(sa 2, .inl (D.1 100, 7, .inl (fun i_ => c (9 + i_))))], [(sa 3, .inl (D.1 100, 7, .inl (fun i_ => c (2 + i_))))], [(sa 4, .inl (D.1 100, 7, .inl od))], [(d, .inl (D.1 104, 10, .inr (.inr (.inr (.inr (rF ra n))))))], thP D sb h2, T] rfl dX0_pacesFrom_40 ?_
            refine z_aload_n (pc := 41) gX 0 dX0_pacesFrom_41 rfl rfl ?_
            refine z_iload_n (pc := 42) gX 1 dX0_pacesFrom_42 rfl rfl ?_
            refine z_iconst (pc := 43) gX 1 dX0_pacesFrom_43 (by decide) ?_
            refine z_iadd (pc := 44) gX dX0_pacesFrom_44 ?_
            refine z_top (nI (at_ + 1)) (nI_add at_ 1) ?_
            refine z_iload_n (pc := 45) gX 2 dX0_pacesFrom_45 rfl rfl ?_
            refine z_iload (pc := 46) gX 5 dX0_pacesFrom_46 rfl ?_
            refine z_iadd (pc := 48) gX dX0_pacesFrom_48 ?_
            refine z_top (nI (sm + v)) (nI_add sm v) ?_
            refine z_iload_n (pc := 49) gX 3 dX0_pacesFrom_49 rfl rfl ?_
            refine z_iload (pc := 50) gX 4 dX0_pacesFrom_50 rfl ?_
            refine z_cMV (pc := 52) gX hAX [.int (nI (at_ + 1)), .int (nI (sm + v)), .int (nI j), .int (nI nn)] [] [0, 1, 2, 3, 4, 5, 6, 7, 8, 9, 10] [] (fun A1 => met_pacesR_2 l D B0 A1 o ad sa sb tr x2 wn md d n c od ra T k h2 (upd tf2 at_ (nI v)) bf2 j nn (3 * P + v) (at_ + 1) (sm + v) hG ht2 hj hnn (by omega) (by rw [Nat.pow_succ]; omega) (by rw [rnS_s (by omega), hsm]) (pcT_s hT2 (by omega)) hR2) q1031 q1033 qs24 q47 q1034 (zm 0 rfl) (ci := 0) rfl rfl hd_X0_pacesFrom ⟨rfl, rfl⟩ ⟨(Nat.le_of_ble_eq_true rfl), (Nat.le_of_ble_eq_true rfl)⟩ rfl rfl (zpl 11 rfl (by decide +kernel)) rfl rfl (Nat.le_of_ble_eq_true rfl) ⟨(by first | decide | (simp only [zRm]; omega)), (by first | decide | (simp only [zRm]; omega))⟩ dX0_pacesFrom_52 ?_
            intro u52 hu52
            obtain ⟨tf1_52, bf1_52, l1_52, ht1_52⟩ := u52
            have hu52 : pcT (at_ + 1) (3 * P + v) tf1_52 ∧ pcR n k c j nn (((3 * P + v) + 1) * 9) l1_52 bf1_52 ∧ tOK ht1_52 := hu52
            refine z_re [0, 1, 2, 3, 4, 5, 6, 7, 8, 9, 10] [cOb o ad (sa 0) (sb 0) tr (upd x2 4 l1_52), [(ad 4, .inl (D.1 100, 6, .inl tf1_52))], [(ad 5, .inl (D.1 100, 6, .inl bf1_52))], [(sa 0, .inr (2, [.int (c 16), .int (c 1), .int (c 0), .int wn, .ref (sa 1), .ref (sa 2), .ref (sa 3), .ref (sa 4)]))], [(sa 1, .inr (16, [.int md, .ref d, .int (nI n)]))], [(sa 2, .inl (D.1 100, 7, .inl (fun i_ => c (9 + i_))))], [(sa 3, .inl (D.1 100, 7, .inl (fun i_ => c (2 + i_))))], [(sa 4, .inl (D.1 100, 7, .inl od))], [(d, .inl (D.1 104, 10, .inr (.inr (.inr (.inr (rF ra n))))))], thP D sb ht1_52, T] rfl (zpl 11 rfl (by decide +kernel)) ?_
            refine z_norm [cOb o ad (sa 0) (sb 0) tr (upd x2 4 l1_52), [(ad 4, .inl (D.1 100, 6, .inl tf1_52))], [(ad 5, .inl (D.1 100, 6, .inl bf1_52))], [(sa 0, .inr (2, [.int (c 16), .int (c 1), .int (c 0), .int wn, .ref (sa 1), .ref (sa 2), .ref (sa 3), .ref (sa 4)]))], [(sa 1, .inr (16, [.int md, .ref d, .int (nI n)]))], [(sa 2, .inl (D.1 100, 7, .inl (fun i_ => c (9 + i_))))], [(sa 3, .inl (D.1 100, 7, .inl (fun i_ => c (2 + i_))))], [(sa 4, .inl (D.1 100, 7, .inl od))], [(d, .inl (D.1 104, 10, .inr (.inr (.inr (.inr (rF ra n))))))], thP D sb ht1_52, T] (9 * v + 9) (90 * v + 90) ?_ rfl rfl rfl
            refine z_eq (lv₂ := [(0, .ref o), (1, .int (nI at_)), (2, .int (nI sm)), (3, .int (nI j)), (4, .int (nI nn)), (5, .int (nI v))]) (st₂ := []) ?_ rfl rfl
            refine z_iinc (pc := 55) gX 5 (nI (v + 1)) [1, 2, 3, 4, 5, 0] [(0, .ref o), (1, .int (nI at_)), (2, .int (nI sm)), (3, .int (nI j)), (4, .int (nI nn)), (5, .int (nI (v + 1)))] dX0_pacesFrom_55 rfl (nI_1 _) (by decide) rfl ?_
            refine z_goto (pc := 58) gX 27 dX0_pacesFrom_58 (by decide) ?_
            refine z_widen (k := 9 * (v + 1)) (n := 90 * (v + 1)) (by omega) (by omega) ?_
            exact ih27 (v + 1) (upd x2 4 l1_52) tf1_52 bf1_52 ht1_52 (by omega) (by rw [pk_us, hx2, upd_upd]) (pcT_p hu52.1 (by omega)) (by rw [pk_us, show (3 * P + (v + 1)) * 9 = (3 * P + v + 1) * 9 by omega]; exact hu52.2.1) hu52.2.2 (by omega)
      refine z_widen (k := 9 * 0) (n := 90 * 0) (by omega) (by omega) ?_
      exact L27 ((3 - 0) + 1) 0 x tf bf ht (by omega) ((upd_self _ _).symm) hT (by rw [show (3 * P + 0) * 9 = P * 27 by omega]; exact hR) ht0 (Nat.lt_succ_self _)
  · skip
    refine z_iload_n (pc := 9) gX 2 dX0_pacesFrom_9 rfl rfl ?_
    refine z_aload_n (pc := 10) gX 0 dX0_pacesFrom_10 rfl rfl ?_
    refine z_get (pc := 11) gX (zI_ok gX hAX) (zm 0 rfl) (ci := 0) (C := RX0) (T := TX0) (N := 14) rfl in_X0 13 (by decide) q222 (fun _ h => h) (v := .int (x 4)) rfl dX0_pacesFrom_11 ?_
    refine z_icmp_lt (pc := 14) gX 18 dX0_pacesFrom_14 (by decide) (fun c14 => ?_) (fun c14 => ?_)
    · skip
      refine z_iload_n (pc := 18) gX 1 dX0_pacesFrom_18 rfl rfl ?_
      refine z_iload (pc := 19) gX 4 dX0_pacesFrom_19 rfl ?_
      refine z_icmp_ge (pc := 21) gX 62 dX0_pacesFrom_21 (by decide) (fun c21 => ?_) (fun c21 => ?_)
      · skip
        have k21 : nn ≤ at_ := (zn_le (a := nn) (b := at_) (by omega) (by omega)).mp c21
        exact absurd k21 (by omega)
      · skip
        have k21 : at_ < nn := (zn_nle (a := nn) (b := at_) (by omega) (by omega)).mp c21
        refine z_iconst (pc := 24) gX 0 dX0_pacesFrom_24 (by decide) ?_
        refine z_istore (pc := 25) gX [1, 2, 3, 4, 5, 0] [(0, .ref o), (1, .int (nI at_)), (2, .int (nI sm)), (3, .int (nI j)), (4, .int (nI nn)), (5, .int 0)] dX0_pacesFrom_25 (by decide) rfl ?_
        have L27 : ∀ (n27 : Nat) (v : Nat) (x2 : Nat → Int32) (tf2 : Nat → Int32) (bf2 : Nat → Int32) (h2 : sT), (v ≤ 3) → (x2 = upd x 4 (x2 4)) → (pcT at_ P tf2) → (pcR n k c j nn ((3 * P + v) * 9) (x2 4) bf2) → (tOK h2) → 3 - v < n27 → zJ pX l eX (zRm 13 27 270) sX mX argsX blX mtX cX QX 6 (zI D A sX [cOb o ad (sa 0) (sb 0) tr x2, [(ad 4, .inl (D.1 100, 6, .inl tf2))], [(ad 5, .inl (D.1 100, 6, .inl bf2))], [(sa 0, .inr (2, [.int (c 16), .int (c 1), .int (c 0), .int wn, .ref (sa 1), .ref (sa 2), .ref (sa 3), .ref (sa 4)]))], [(sa 1, .inr (16, [.int md, .ref d, .int (nI n)]))], [(sa 2, .inl (D.1 100, 7, .inl (fun i_ => c (9 + i_))))], [(sa 3, .inl (D.1 100, 7, .inl (fun i_ => c (2 + i_))))], [(sa 4, .inl (D.1 100, 7, .inl od))], [(d, .inl (D.1 104, 10, .inr (.inr (.inr (.inr (rF ra n))))))], thP D sb h2, T]) (9 * v) (90 * v) 27 [(0, .ref o), (1, .int (nI at_)), (2, .int (nI sm)), (3, .int (nI j)), (4, .int (nI nn)), (5, .int (nI v))] [] := by
          intro n27
          induction n27 with
          | zero => exact fun v x2 tf2 bf2 h2 hv hx2 hT2 hR2 ht2 hm27 => absurd hm27 (Nat.not_lt_zero _)
          | succ n27 ih27 =>
            intro v x2 tf2 bf2 h2 hv hx2 hT2 hR2 ht2 hm27
            refine z_iload (pc := 27) gX 5 dX0_pacesFrom_27 rfl ?_
            refine z_iconst (pc := 29) gX 2 dX0_pacesFrom_29 (by decide) ?_
            refine z_icmp_gt (pc := 30) gX 61 dX0_pacesFrom_30 (by decide) (fun c30 => ?_) (fun c30 => ?_)
            · skip
              have k30 : 2 < v := (zn_lt (a := 2) (b := v) (by omega) (by omega)).mp c30
              exact z_vret gX hQX (tf2, bf2, x2 4, h2) (⟨hT2, by rw [show (P + 1) * 27 = (3 * P + v) * 9 by omega]; exact hR2, ht2⟩) rfl (by simp only [← hx2]) (by first | decide | omega) (by first | decide | omega) dX0_pacesFrom_61
            · skip
              have k30 : v ≤ 2 := (zn_nlt (a := 2) (b := v) (by omega) (by omega)).mp c30
              refine z_aload_n (pc := 33) gX 0 dX0_pacesFrom_33 rfl rfl ?_
              refine z_get (pc := 34) gX (zI_ok gX hAX) (zm 0 rfl) (ci := 0) (C := RX0) (T := TX0) (N := 14) rfl in_X0 11 (by decide) q220 (fun _ h => h) (v := .ref (ad 4)) rfl dX0_pacesFrom_34 ?_
              refine z_iload_n (pc := 37) gX 1 dX0_pacesFrom_37 rfl rfl ?_
              refine z_iload (pc := 38) gX 5 dX0_pacesFrom_38 rfl ?_
              refine z_iast (pc := 40) gX hAX 1 (j := at_) (n := 6) (f := tf2) rfl (by omega) (by decide) [cOb o ad (sa 0) (sb 0) tr x2, [(ad 4, .inl (D.1 100, 6, .inl (upd tf2 at_ (nI v))))], [(ad 5, .inl (D.1 100, 6, .inl bf2))], [(sa 0, .inr (2, [.int (c 16), .int (c 1), .int (c 0), .int wn, .ref (sa 1), .ref (sa 2), .ref (sa 3), .ref (sa 4)]))], [(sa 1, .inr (16, [.int md, .ref d, .int (nI n)]))], [(sa 2, .inl (D.1 100, 7, .inl (fun i_ => c (9 + i_))))], [(sa 3, .inl (D.1 100, 7, .inl (fun i_ => c (2 + i_))))], [(sa 4, .inl (D.1 100, 7, .inl od))], [(d, .inl (D.1 104, 10, .inr (.inr (.inr (.inr (rF ra n))))))], thP D sb h2, T] rfl dX0_pacesFrom_40 ?_
              refine z_aload_n (pc := 41) gX 0 dX0_pacesFrom_41 rfl rfl ?_
              refine z_iload_n (pc := 42) gX 1 dX0_pacesFrom_42 rfl rfl ?_
              refine z_iconst (pc := 43) gX 1 dX0_pacesFrom_43 (by decide) ?_
              refine z_iadd (pc := 44) gX dX0_pacesFrom_44 ?_
              refine z_top (nI (at_ + 1)) (nI_add at_ 1) ?_
              refine z_iload_n (pc := 45) gX 2 dX0_pacesFrom_45 rfl rfl ?_
              refine z_iload (pc := 46) gX 5 dX0_pacesFrom_46 rfl ?_
              refine z_iadd (pc := 48) gX dX0_pacesFrom_48 ?_
              refine z_top (nI (sm + v)) (nI_add sm v) ?_
              refine z_iload_n (pc := 49) gX 3 dX0_pacesFrom_49 rfl rfl ?_
              refine z_iload (pc := 50) gX 4 dX0_pacesFrom_50 rfl ?_
              refine z_cMV (pc := 52) gX hAX [.int (nI (at_ + 1)), .int (nI (sm + v)), .int (nI j), .int (nI nn)] [] [0, 1, 2, 3, 4, 5, 6, 7, 8, 9, 10] [] (fun A1 => met_pacesR_2 l D B0 A1 o ad sa sb tr x2 wn md d n c od ra T k h2 (upd tf2 at_ (nI v)) bf2 j nn (3 * P + v) (at_ + 1) (sm + v) hG ht2 hj hnn (by omega) (by rw [Nat.pow_succ]; omega) (by rw [rnS_s (by omega), hsm]) (pcT_s hT2 (by omega)) hR2) q1031 q1033 qs24 q47 q1034 (zm 0 rfl) (ci := 0) rfl rfl hd_X0_pacesFrom ⟨rfl, rfl⟩ ⟨(Nat.le_of_ble_eq_true rfl), (Nat.le_of_ble_eq_true rfl)⟩ rfl rfl (zpl 11 rfl (by decide +kernel)) rfl rfl (Nat.le_of_ble_eq_true rfl) ⟨(by first | decide | (simp only [zRm]; omega)), (by first | decide | (simp only [zRm]; omega))⟩ dX0_pacesFrom_52 ?_
              intro u52 hu52
              obtain ⟨tf1_52, bf1_52, l1_52, ht1_52⟩ := u52
              have hu52 : pcT (at_ + 1) (3 * P + v) tf1_52 ∧ pcR n k c j nn (((3 * P + v) + 1) * 9) l1_52 bf1_52 ∧ tOK ht1_52 := hu52
              refine z_re [0, 1, 2, 3, 4, 5, 6, 7, 8, 9, 10] [cOb o ad (sa 0) (sb 0) tr (upd x2 4 l1_52), [(ad 4, .inl (D.1 100, 6, .inl tf1_52))], [(ad 5, .inl (D.1 100, 6, .inl bf1_52))], [(sa 0, .inr (2, [.int (c 16), .int (c 1), .int (c 0), .int wn, .ref (sa 1), .ref (sa 2), .ref (sa 3), .ref (sa 4)]))], [(sa 1, .inr (16, [.int md, .ref d, .int (nI n)]))], [(sa 2, .inl (D.1 100, 7, .inl (fun i_ => c (9 + i_))))], [(sa 3, .inl (D.1 100, 7, .inl (fun i_ => c (2 + i_))))], [(sa 4, .inl (D.1 100, 7, .inl od))], [(d, .inl (D.1 104, 10, .inr (.inr (.inr (.inr (rF ra n))))))], thP D sb ht1_52, T] rfl (zpl 11 rfl (by decide +kernel)) ?_
              refine z_norm [cOb o ad (sa 0) (sb 0) tr (upd x2 4 l1_52), [(ad 4, .inl (D.1 100, 6, .inl tf1_52))], [(ad 5, .inl (D.1 100, 6, .inl bf1_52))], [(sa 0, .inr (2, [.int (c 16), .int (c 1), .int (c 0), .int wn, .ref (sa 1), .ref (sa 2), .ref (sa 3), .ref (sa 4)]))], [(sa 1, .inr (16, [.int md, .ref d, .int (nI n)]))], [(sa 2, .inl (D.1 100, 7, .inl (fun i_ => c (9 + i_))))], [(sa 3, .inl (D.1 100, 7, .inl (fun i_ => c (2 + i_))))], [(sa 4, .inl (D.1 100, 7, .inl od))], [(d, .inl (D.1 104, 10, .inr (.inr (.inr (.inr (rF ra n))))))], thP D sb ht1_52, T] (9 * v + 9) (90 * v + 90) ?_ rfl rfl rfl
              refine z_eq (lv₂ := [(0, .ref o), (1, .int (nI at_)), (2, .int (nI sm)), (3, .int (nI j)), (4, .int (nI nn)), (5, .int (nI v))]) (st₂ := []) ?_ rfl rfl
              refine z_iinc (pc := 55) gX 5 (nI (v + 1)) [1, 2, 3, 4, 5, 0] [(0, .ref o), (1, .int (nI at_)), (2, .int (nI sm)), (3, .int (nI j)), (4, .int (nI nn)), (5, .int (nI (v + 1)))] dX0_pacesFrom_55 rfl (nI_1 _) (by decide) rfl ?_
              refine z_goto (pc := 58) gX 27 dX0_pacesFrom_58 (by decide) ?_
              refine z_widen (k := 9 * (v + 1)) (n := 90 * (v + 1)) (by omega) (by omega) ?_
              exact ih27 (v + 1) (upd x2 4 l1_52) tf1_52 bf1_52 ht1_52 (by omega) (by rw [pk_us, hx2, upd_upd]) (pcT_p hu52.1 (by omega)) (by rw [pk_us, show (3 * P + (v + 1)) * 9 = (3 * P + v + 1) * 9 by omega]; exact hu52.2.1) hu52.2.2 (by omega)
        refine z_widen (k := 9 * 0) (n := 90 * 0) (by omega) (by omega) ?_
        exact L27 ((3 - 0) + 1) 0 x tf bf ht (by omega) ((upd_self _ _).symm) hT (by rw [show (3 * P + 0) * 9 = P * 27 by omega]; exact hR) ht0 (Nat.lt_succ_self _)
    · skip
      exact z_vret gX hQX (tf, bf, x 4, ht) (⟨hT, pc_cut ham rfl hnn hP hR c6 (by rw [← hsm]; exact c14), ht0⟩) rfl (by simp only [upd_self]) (by first | decide | omega) (by first | decide | omega) dX0_pacesFrom_17

set_option maxHeartbeats 4000000 in
theorem met_pacesR_4 (l : Launch) (D : va_G) (B0 : Nat) (A : Nat → Prop) (o : Nat) (ad : Nat → Nat) (sa : Nat → Nat) (sb : Nat → Nat) (tr : Nat) (x : Nat → Int32) (wn : Int32) (md : Int32) (d : Nat) (n : Nat) (c : Nat → Int32) (od : Nat → Int32) (ra : Nat → Nat) (T : va_W) (k : Nat) (ht : sT) (tf : Nat → Int32) (bf : Nat → Int32) (j : Nat) (nn : Nat) (P : Nat) (at_ : Nat) (sm : Nat) (hG : gOK T n k ra c) (ht0 : tOK ht) (hj : j < n) (hnn : nn ≤ 6) (ham : at_ + 4 = nn) (hP : P < 3 ^ at_) (hsm : sm = rnS at_ P at_) (hT : pcT at_ P tf) (hR : pcR n k c j nn (P * 81) (x 4) bf) : Met l yX0_pacesFrom (ws_ yX0_pacesFrom cX0_pacesFrom 6 none) (zRm 14 81 810) (va_Pc [.ref o, .int (nI at_), .int (nI sm), .int (nI j), .int (nI nn)] (zPre B0 D A [cOb o ad (sa 0) (sb 0) tr x, [(ad 4, .inl (D.1 100, 6, .inl tf))], [(ad 5, .inl (D.1 100, 6, .inl bf))], [(sa 0, .inr (2, [.int (c 16), .int (c 1), .int (c 0), .int wn, .ref (sa 1), .ref (sa 2), .ref (sa 3), .ref (sa 4)]))], [(sa 1, .inr (16, [.int md, .ref d, .int (nI n)]))], [(sa 2, .inl (D.1 100, 7, .inl (fun i_ => c (9 + i_))))], [(sa 3, .inl (D.1 100, 7, .inl (fun i_ => c (2 + i_))))], [(sa 4, .inl (D.1 100, 7, .inl od))], [(d, .inl (D.1 104, 10, .inr (.inr (.inr (.inr (rF ra n))))))], thP D sb ht, T])) (zQ (S := (Nat → Int32) × (Nat → Int32) × Int32 × sT) (fun u => (fun (tf1 : Nat → Int32) (bf1 : Nat → Int32) (l1 : Int32) (ht1 : sT) => pcT at_ P tf1 ∧ pcR n k c j nn ((P + 1) * 81) l1 bf1 ∧ tOK ht1) u.1 u.2.1 u.2.2.1 u.2.2.2) (fun u => (fun (tf1 : Nat → Int32) (bf1 : Nat → Int32) (l1 : Int32) (ht1 : sT) => none) u.1 u.2.1 u.2.2.1 u.2.2.2) (fun u => (fun (tf1 : Nat → Int32) (bf1 : Nat → Int32) (l1 : Int32) (ht1 : sT) => [cOb o ad (sa 0) (sb 0) tr (upd x 4 l1), [(ad 4, .inl (D.1 100, 6, .inl tf1))], [(ad 5, .inl (D.1 100, 6, .inl bf1))], [(sa 0, .inr (2, [.int (c 16), .int (c 1), .int (c 0), .int wn, .ref (sa 1), .ref (sa 2), .ref (sa 3), .ref (sa 4)]))], [(sa 1, .inr (16, [.int md, .ref d, .int (nI n)]))], [(sa 2, .inl (D.1 100, 7, .inl (fun i_ => c (9 + i_))))], [(sa 3, .inl (D.1 100, 7, .inl (fun i_ => c (2 + i_))))], [(sa 4, .inl (D.1 100, 7, .inl od))], [(d, .inl (D.1 104, 10, .inr (.inr (.inr (.inr (rF ra n))))))], thP D sb ht1, T]) u.1 u.2.1 u.2.2.1 u.2.2.2) D A) 81 810 A := by
  refine z_entry (by decide +kernel) (Nat.le_of_ble_eq_true rfl) (fun pX eX sX mX argsX blX mtX cX QX hQX gX hAX hnm => ?_)
  refine z_eq (lv₂ := [(0, .ref o), (1, .int (nI at_)), (2, .int (nI sm)), (3, .int (nI j)), (4, .int (nI nn))]) (st₂ := []) ?_ rfl rfl
  have hK := hG.k
  have hn7 := hG.2.1
  have hsl : sm ≤ 12 := by have := rnS_le at_ P at_; omega
  refine z_aload_n (pc := 0) gX 0 dX0_pacesFrom_0 rfl rfl ?_
  refine z_get (pc := 1) gX (zI_ok gX hAX) (zm 0 rfl) (ci := 0) (C := RX0) (T := TX0) (N := 14) rfl in_X0 13 (by decide) q222 (fun _ h => h) (v := .int (x 4)) rfl dX0_pacesFrom_1 ?_
  refine z_ldc (pc := 4) gX q1003 dX0_pacesFrom_4 ?_
  refine z_icmp_eq (pc := 6) gX 18 dX0_pacesFrom_6 (by decide) (fun c6 => ?_) (fun c6 => ?_)
  · skip
    refine z_iload_n (pc := 18) gX 1 dX0_pacesFrom_18 rfl rfl ?_
    refine z_iload (pc := 19) gX 4 dX0_pacesFrom_19 rfl ?_
    refine z_icmp_ge (pc := 21) gX 62 dX0_pacesFrom_21 (by decide) (fun c21 => ?_) (fun c21 => ?_)
    · skip
      have k21 : nn ≤ at_ := (zn_le (a := nn) (b := at_) (by omega) (by omega)).mp c21
      exact absurd k21 (by omega)
    · skip
      have k21 : at_ < nn := (zn_nle (a := nn) (b := at_) (by omega) (by omega)).mp c21
      refine z_iconst (pc := 24) gX 0 dX0_pacesFrom_24 (by decide) ?_
      refine z_istore (pc := 25) gX [1, 2, 3, 4, 5, 0] [(0, .ref o), (1, .int (nI at_)), (2, .int (nI sm)), (3, .int (nI j)), (4, .int (nI nn)), (5, .int 0)] dX0_pacesFrom_25 (by decide) rfl ?_
      have L27 : ∀ (n27 : Nat) (v : Nat) (x2 : Nat → Int32) (tf2 : Nat → Int32) (bf2 : Nat → Int32) (h2 : sT), (v ≤ 3) → (x2 = upd x 4 (x2 4)) → (pcT at_ P tf2) → (pcR n k c j nn ((3 * P + v) * 27) (x2 4) bf2) → (tOK h2) → 3 - v < n27 → zJ pX l eX (zRm 14 81 810) sX mX argsX blX mtX cX QX 6 (zI D A sX [cOb o ad (sa 0) (sb 0) tr x2, [(ad 4, .inl (D.1 100, 6, .inl tf2))], [(ad 5, .inl (D.1 100, 6, .inl bf2))], [(sa 0, .inr (2, [.int (c 16), .int (c 1), .int (c 0), .int wn, .ref (sa 1), .ref (sa 2), .ref (sa 3), .ref (sa 4)]))], [(sa 1, .inr (16, [.int md, .ref d, .int (nI n)]))], [(sa 2, .inl (D.1 100, 7, .inl (fun i_ => c (9 + i_))))], [(sa 3, .inl (D.1 100, 7, .inl (fun i_ => c (2 + i_))))], [(sa 4, .inl (D.1 100, 7, .inl od))], [(d, .inl (D.1 104, 10, .inr (.inr (.inr (.inr (rF ra n))))))], thP D sb h2, T]) (27 * v) (270 * v) 27 [(0, .ref o), (1, .int (nI at_)), (2, .int (nI sm)), (3, .int (nI j)), (4, .int (nI nn)), (5, .int (nI v))] [] := by
        intro n27
        induction n27 with
        | zero => exact fun v x2 tf2 bf2 h2 hv hx2 hT2 hR2 ht2 hm27 => absurd hm27 (Nat.not_lt_zero _)
        | succ n27 ih27 =>
          intro v x2 tf2 bf2 h2 hv hx2 hT2 hR2 ht2 hm27
          refine z_iload (pc := 27) gX 5 dX0_pacesFrom_27 rfl ?_
          refine z_iconst (pc := 29) gX 2 dX0_pacesFrom_29 (by decide) ?_
          refine z_icmp_gt (pc := 30) gX 61 dX0_pacesFrom_30 (by decide) (fun c30 => ?_) (fun c30 => ?_)
          · skip
            have k30 : 2 < v := (zn_lt (a := 2) (b := v) (by omega) (by omega)).mp c30
            exact z_vret gX hQX (tf2, bf2, x2 4, h2) (⟨hT2, by rw [show (P + 1) * 81 = (3 * P + v) * 27 by omega]; exact hR2, ht2⟩) rfl (by simp only [← hx2]) (by first | decide | omega) (by first | decide | omega) dX0_pacesFrom_61
          · skip
            have k30 : v ≤ 2 := (zn_nlt (a := 2) (b := v) (by omega) (by omega)).mp c30
            refine z_aload_n (pc := 33) gX 0 dX0_pacesFrom_33 rfl rfl ?_
            refine z_get (pc := 34) gX (zI_ok gX hAX) (zm 0 rfl) (ci := 0) (C := RX0) (T := TX0) (N := 14) rfl in_X0 11 (by decide) q220 (fun _ h => h) (v := .ref (ad 4)) rfl dX0_pacesFrom_34 ?_
            refine z_iload_n (pc := 37) gX 1 dX0_pacesFrom_37 rfl rfl ?_
            refine z_iload (pc := 38) gX 5 dX0_pacesFrom_38 rfl ?_
            refine z_iast (pc := 40) gX hAX 1 (j := at_) (n := 6) (f := tf2) rfl (by omega) (by decide) [cOb o ad (sa 0) (sb 0) tr x2, [(ad 4, .inl (D.1 100, 6, .inl (upd tf2 at_ (nI v))))], [(ad 5, .inl (D.1 100, 6, .inl bf2))], [(sa 0, .inr (2, [.int (c 16), .int (c 1), .int (c 0), .int wn, .ref (sa 1), .ref (sa 2), .ref (sa 3), .ref (sa 4)]))], [(sa 1, .inr (16, [.int md, .ref d, .int (nI n)]))], [(sa 2, .inl (D.1 100, 7, .inl (fun i_ => c (9 + i_))))], [(sa 3, .inl (D.1 100, 7, .inl (fun i_ => c (2 + i_))))], [(sa 4, .inl (D.1 100, 7, .inl od))], [(d, .inl (D.1 104, 10, .inr (.inr (.inr (.inr (rF ra n))))))], thP D sb h2, T] rfl dX0_pacesFrom_40 ?_
            refine z_aload_n (pc := 41) gX 0 dX0_pacesFrom_41 rfl rfl ?_
            refine z_iload_n (pc := 42) gX 1 dX0_pacesFrom_42 rfl rfl ?_
            refine z_iconst (pc := 43) gX 1 dX0_pacesFrom_43 (by decide) ?_
            refine z_iadd (pc := 44) gX dX0_pacesFrom_44 ?_
            refine z_top (nI (at_ + 1)) (nI_add at_ 1) ?_
            refine z_iload_n (pc := 45) gX 2 dX0_pacesFrom_45 rfl rfl ?_
            refine z_iload (pc := 46) gX 5 dX0_pacesFrom_46 rfl ?_
            refine z_iadd (pc := 48) gX dX0_pacesFrom_48 ?_
            refine z_top (nI (sm + v)) (nI_add sm v) ?_
            refine z_iload_n (pc := 49) gX 3 dX0_pacesFrom_49 rfl rfl ?_
            refine z_iload (pc := 50) gX 4 dX0_pacesFrom_50 rfl ?_
            refine z_cMV (pc := 52) gX hAX [.int (nI (at_ + 1)), .int (nI (sm + v)), .int (nI j), .int (nI nn)] [] [0, 1, 2, 3, 4, 5, 6, 7, 8, 9, 10] [] (fun A1 => met_pacesR_3 l D B0 A1 o ad sa sb tr x2 wn md d n c od ra T k h2 (upd tf2 at_ (nI v)) bf2 j nn (3 * P + v) (at_ + 1) (sm + v) hG ht2 hj hnn (by omega) (by rw [Nat.pow_succ]; omega) (by rw [rnS_s (by omega), hsm]) (pcT_s hT2 (by omega)) hR2) q1031 q1033 qs24 q47 q1034 (zm 0 rfl) (ci := 0) rfl rfl hd_X0_pacesFrom ⟨rfl, rfl⟩ ⟨(Nat.le_of_ble_eq_true rfl), (Nat.le_of_ble_eq_true rfl)⟩ rfl rfl (zpl 11 rfl (by decide +kernel)) rfl rfl (Nat.le_of_ble_eq_true rfl) ⟨(by first | decide | (simp only [zRm]; omega)), (by first | decide | (simp only [zRm]; omega))⟩ dX0_pacesFrom_52 ?_
            intro u52 hu52
            obtain ⟨tf1_52, bf1_52, l1_52, ht1_52⟩ := u52
            have hu52 : pcT (at_ + 1) (3 * P + v) tf1_52 ∧ pcR n k c j nn (((3 * P + v) + 1) * 27) l1_52 bf1_52 ∧ tOK ht1_52 := hu52
            refine z_re [0, 1, 2, 3, 4, 5, 6, 7, 8, 9, 10] [cOb o ad (sa 0) (sb 0) tr (upd x2 4 l1_52), [(ad 4, .inl (D.1 100, 6, .inl tf1_52))], [(ad 5, .inl (D.1 100, 6, .inl bf1_52))], [(sa 0, .inr (2, [.int (c 16), .int (c 1), .int (c 0), .int wn, .ref (sa 1), .ref (sa 2), .ref (sa 3), .ref (sa 4)]))], [(sa 1, .inr (16, [.int md, .ref d, .int (nI n)]))], [(sa 2, .inl (D.1 100, 7, .inl (fun i_ => c (9 + i_))))], [(sa 3, .inl (D.1 100, 7, .inl (fun i_ => c (2 + i_))))], [(sa 4, .inl (D.1 100, 7, .inl od))], [(d, .inl (D.1 104, 10, .inr (.inr (.inr (.inr (rF ra n))))))], thP D sb ht1_52, T] rfl (zpl 11 rfl (by decide +kernel)) ?_
            refine z_norm [cOb o ad (sa 0) (sb 0) tr (upd x2 4 l1_52), [(ad 4, .inl (D.1 100, 6, .inl tf1_52))], [(ad 5, .inl (D.1 100, 6, .inl bf1_52))], [(sa 0, .inr (2, [.int (c 16), .int (c 1), .int (c 0), .int wn, .ref (sa 1), .ref (sa 2), .ref (sa 3), .ref (sa 4)]))], [(sa 1, .inr (16, [.int md, .ref d, .int (nI n)]))], [(sa 2, .inl (D.1 100, 7, .inl (fun i_ => c (9 + i_))))], [(sa 3, .inl (D.1 100, 7, .inl (fun i_ => c (2 + i_))))], [(sa 4, .inl (D.1 100, 7, .inl od))], [(d, .inl (D.1 104, 10, .inr (.inr (.inr (.inr (rF ra n))))))], thP D sb ht1_52, T] (27 * v + 27) (270 * v + 270) ?_ rfl rfl rfl
            refine z_eq (lv₂ := [(0, .ref o), (1, .int (nI at_)), (2, .int (nI sm)), (3, .int (nI j)), (4, .int (nI nn)), (5, .int (nI v))]) (st₂ := []) ?_ rfl rfl
            refine z_iinc (pc := 55) gX 5 (nI (v + 1)) [1, 2, 3, 4, 5, 0] [(0, .ref o), (1, .int (nI at_)), (2, .int (nI sm)), (3, .int (nI j)), (4, .int (nI nn)), (5, .int (nI (v + 1)))] dX0_pacesFrom_55 rfl (nI_1 _) (by decide) rfl ?_
            refine z_goto (pc := 58) gX 27 dX0_pacesFrom_58 (by decide) ?_
            refine z_widen (k := 27 * (v + 1)) (n := 270 * (v + 1)) (by omega) (by omega) ?_
            exact ih27 (v + 1) (upd x2 4 l1_52) tf1_52 bf1_52 ht1_52 (by omega) (by rw [pk_us, hx2, upd_upd]) (pcT_p hu52.1 (by omega)) (by rw [pk_us, show (3 * P + (v + 1)) * 27 = (3 * P + v + 1) * 27 by omega]; exact hu52.2.1) hu52.2.2 (by omega)
      refine z_widen (k := 27 * 0) (n := 270 * 0) (by omega) (by omega) ?_
      exact L27 ((3 - 0) + 1) 0 x tf bf ht (by omega) ((upd_self _ _).symm) hT (by rw [show (3 * P + 0) * 27 = P * 81 by omega]; exact hR) ht0 (Nat.lt_succ_self _)
  · skip
    refine z_iload_n (pc := 9) gX 2 dX0_pacesFrom_9 rfl rfl ?_
    refine z_aload_n (pc := 10) gX 0 dX0_pacesFrom_10 rfl rfl ?_
    refine z_get (pc := 11) gX (zI_ok gX hAX) (zm 0 rfl) (ci := 0) (C := RX0) (T := TX0) (N := 14) rfl in_X0 13 (by decide) q222 (fun _ h => h) (v := .int (x 4)) rfl dX0_pacesFrom_11 ?_
    refine z_icmp_lt (pc := 14) gX 18 dX0_pacesFrom_14 (by decide) (fun c14 => ?_) (fun c14 => ?_)
    · skip
      refine z_iload_n (pc := 18) gX 1 dX0_pacesFrom_18 rfl rfl ?_
      refine z_iload (pc := 19) gX 4 dX0_pacesFrom_19 rfl ?_
      refine z_icmp_ge (pc := 21) gX 62 dX0_pacesFrom_21 (by decide) (fun c21 => ?_) (fun c21 => ?_)
      · skip
        have k21 : nn ≤ at_ := (zn_le (a := nn) (b := at_) (by omega) (by omega)).mp c21
        exact absurd k21 (by omega)
      · skip
        have k21 : at_ < nn := (zn_nle (a := nn) (b := at_) (by omega) (by omega)).mp c21
        refine z_iconst (pc := 24) gX 0 dX0_pacesFrom_24 (by decide) ?_
        refine z_istore (pc := 25) gX [1, 2, 3, 4, 5, 0] [(0, .ref o), (1, .int (nI at_)), (2, .int (nI sm)), (3, .int (nI j)), (4, .int (nI nn)), (5, .int 0)] dX0_pacesFrom_25 (by decide) rfl ?_
        have L27 : ∀ (n27 : Nat) (v : Nat) (x2 : Nat → Int32) (tf2 : Nat → Int32) (bf2 : Nat → Int32) (h2 : sT), (v ≤ 3) → (x2 = upd x 4 (x2 4)) → (pcT at_ P tf2) → (pcR n k c j nn ((3 * P + v) * 27) (x2 4) bf2) → (tOK h2) → 3 - v < n27 → zJ pX l eX (zRm 14 81 810) sX mX argsX blX mtX cX QX 6 (zI D A sX [cOb o ad (sa 0) (sb 0) tr x2, [(ad 4, .inl (D.1 100, 6, .inl tf2))], [(ad 5, .inl (D.1 100, 6, .inl bf2))], [(sa 0, .inr (2, [.int (c 16), .int (c 1), .int (c 0), .int wn, .ref (sa 1), .ref (sa 2), .ref (sa 3), .ref (sa 4)]))], [(sa 1, .inr (16, [.int md, .ref d, .int (nI n)]))], [(sa 2, .inl (D.1 100, 7, .inl (fun i_ => c (9 + i_))))], [(sa 3, .inl (D.1 100, 7, .inl (fun i_ => c (2 + i_))))], [(sa 4, .inl (D.1 100, 7, .inl od))], [(d, .inl (D.1 104, 10, .inr (.inr (.inr (.inr (rF ra n))))))], thP D sb h2, T]) (27 * v) (270 * v) 27 [(0, .ref o), (1, .int (nI at_)), (2, .int (nI sm)), (3, .int (nI j)), (4, .int (nI nn)), (5, .int (nI v))] [] := by
          intro n27
          induction n27 with
          | zero => exact fun v x2 tf2 bf2 h2 hv hx2 hT2 hR2 ht2 hm27 => absurd hm27 (Nat.not_lt_zero _)
          | succ n27 ih27 =>
            intro v x2 tf2 bf2 h2 hv hx2 hT2 hR2 ht2 hm27
            refine z_iload (pc := 27) gX 5 dX0_pacesFrom_27 rfl ?_
            refine z_iconst (pc := 29) gX 2 dX0_pacesFrom_29 (by decide) ?_
            refine z_icmp_gt (pc := 30) gX 61 dX0_pacesFrom_30 (by decide) (fun c30 => ?_) (fun c30 => ?_)
            · skip
              have k30 : 2 < v := (zn_lt (a := 2) (b := v) (by omega) (by omega)).mp c30
              exact z_vret gX hQX (tf2, bf2, x2 4, h2) (⟨hT2, by rw [show (P + 1) * 81 = (3 * P + v) * 27 by omega]; exact hR2, ht2⟩) rfl (by simp only [← hx2]) (by first | decide | omega) (by first | decide | omega) dX0_pacesFrom_61
            · skip
              have k30 : v ≤ 2 := (zn_nlt (a := 2) (b := v) (by omega) (by omega)).mp c30
              refine z_aload_n (pc := 33) gX 0 dX0_pacesFrom_33 rfl rfl ?_
              refine z_get (pc := 34) gX (zI_ok gX hAX) (zm 0 rfl) (ci := 0) (C := RX0) (T := TX0) (N := 14) rfl in_X0 11 (by decide) q220 (fun _ h => h) (v := .ref (ad 4)) rfl dX0_pacesFrom_34 ?_
              refine z_iload_n (pc := 37) gX 1 dX0_pacesFrom_37 rfl rfl ?_
              refine z_iload (pc := 38) gX 5 dX0_pacesFrom_38 rfl ?_
              refine z_iast (pc := 40) gX hAX 1 (j := at_) (n := 6) (f := tf2) rfl (by omega) (by decide) [cOb o ad (sa 0) (sb 0) tr x2, [(ad 4, .inl (D.1 100, 6, .inl (upd tf2 at_ (nI v))))], [(ad 5, .inl (D.1 100, 6, .inl bf2))], [(sa 0, .inr (2, [.int (c 16), .int (c 1), .int (c 0), .int wn, .ref (sa 1), .ref (sa 2), .ref (sa 3), .ref (sa 4)]))], [(sa 1, .inr (16, [.int md, .ref d, .int (nI n)]))], [(sa 2, .inl (D.1 100, 7, .inl (fun i_ => c (9 + i_))))], [(sa 3, .inl (D.1 100, 7, .inl (fun i_ => c (2 + i_))))], [(sa 4, .inl (D.1 100, 7, .inl od))], [(d, .inl (D.1 104, 10, .inr (.inr (.inr (.inr (rF ra n))))))], thP D sb h2, T] rfl dX0_pacesFrom_40 ?_
              refine z_aload_n (pc := 41) gX 0 dX0_pacesFrom_41 rfl rfl ?_
              refine z_iload_n (pc := 42) gX 1 dX0_pacesFrom_42 rfl rfl ?_
              refine z_iconst (pc := 43) gX 1 dX0_pacesFrom_43 (by decide) ?_
              refine z_iadd (pc := 44) gX dX0_pacesFrom_44 ?_
              refine z_top (nI (at_ + 1)) (nI_add at_ 1) ?_
              refine z_iload_n (pc := 45) gX 2 dX0_pacesFrom_45 rfl rfl ?_
              refine z_iload (pc := 46) gX 5 dX0_pacesFrom_46 rfl ?_
              refine z_iadd (pc := 48) gX dX0_pacesFrom_48 ?_
              refine z_top (nI (sm + v)) (nI_add sm v) ?_
              refine z_iload_n (pc := 49) gX 3 dX0_pacesFrom_49 rfl rfl ?_
              refine z_iload (pc := 50) gX 4 dX0_pacesFrom_50 rfl ?_
              refine z_cMV (pc := 52) gX hAX [.int (nI (at_ + 1)), .int (nI (sm + v)), .int (nI j), .int (nI nn)] [] [0, 1, 2, 3, 4, 5, 6, 7, 8, 9, 10] [] (fun A1 => met_pacesR_3 l D B0 A1 o ad sa sb tr x2 wn md d n c od ra T k h2 (upd tf2 at_ (nI v)) bf2 j nn (3 * P + v) (at_ + 1) (sm + v) hG ht2 hj hnn (by omega) (by rw [Nat.pow_succ]; omega) (by rw [rnS_s (by omega), hsm]) (pcT_s hT2 (by omega)) hR2) q1031 q1033 qs24 q47 q1034 (zm 0 rfl) (ci := 0) rfl rfl hd_X0_pacesFrom ⟨rfl, rfl⟩ ⟨(Nat.le_of_ble_eq_true rfl), (Nat.le_of_ble_eq_true rfl)⟩ rfl rfl (zpl 11 rfl (by decide +kernel)) rfl rfl (Nat.le_of_ble_eq_true rfl) ⟨(by first | decide | (simp only [zRm]; omega)), (by first | decide | (simp only [zRm]; omega))⟩ dX0_pacesFrom_52 ?_
              intro u52 hu52
              obtain ⟨tf1_52, bf1_52, l1_52, ht1_52⟩ := u52
              have hu52 : pcT (at_ + 1) (3 * P + v) tf1_52 ∧ pcR n k c j nn (((3 * P + v) + 1) * 27) l1_52 bf1_52 ∧ tOK ht1_52 := hu52
              refine z_re [0, 1, 2, 3, 4, 5, 6, 7, 8, 9, 10] [cOb o ad (sa 0) (sb 0) tr (upd x2 4 l1_52), [(ad 4, .inl (D.1 100, 6, .inl tf1_52))], [(ad 5, .inl (D.1 100, 6, .inl bf1_52))], [(sa 0, .inr (2, [.int (c 16), .int (c 1), .int (c 0), .int wn, .ref (sa 1), .ref (sa 2), .ref (sa 3), .ref (sa 4)]))], [(sa 1, .inr (16, [.int md, .ref d, .int (nI n)]))], [(sa 2, .inl (D.1 100, 7, .inl (fun i_ => c (9 + i_))))], [(sa 3, .inl (D.1 100, 7, .inl (fun i_ => c (2 + i_))))], [(sa 4, .inl (D.1 100, 7, .inl od))], [(d, .inl (D.1 104, 10, .inr (.inr (.inr (.inr (rF ra n))))))], thP D sb ht1_52, T] rfl (zpl 11 rfl (by decide +kernel)) ?_
              refine z_norm [cOb o ad (sa 0) (sb 0) tr (upd x2 4 l1_52), [(ad 4, .inl (D.1 100, 6, .inl tf1_52))], [(ad 5, .inl (D.1 100, 6, .inl bf1_52))], [(sa 0, .inr (2, [.int (c 16), .int (c 1), .int (c 0), .int wn, .ref (sa 1), .ref (sa 2), .ref (sa 3), .ref (sa 4)]))], [(sa 1, .inr (16, [.int md, .ref d, .int (nI n)]))], [(sa 2, .inl (D.1 100, 7, .inl (fun i_ => c (9 + i_))))], [(sa 3, .inl (D.1 100, 7, .inl (fun i_ => c (2 + i_))))], [(sa 4, .inl (D.1 100, 7, .inl od))], [(d, .inl (D.1 104, 10, .inr (.inr (.inr (.inr (rF ra n))))))], thP D sb ht1_52, T] (27 * v + 27) (270 * v + 270) ?_ rfl rfl rfl
              refine z_eq (lv₂ := [(0, .ref o), (1, .int (nI at_)), (2, .int (nI sm)), (3, .int (nI j)), (4, .int (nI nn)), (5, .int (nI v))]) (st₂ := []) ?_ rfl rfl
              refine z_iinc (pc := 55) gX 5 (nI (v + 1)) [1, 2, 3, 4, 5, 0] [(0, .ref o), (1, .int (nI at_)), (2, .int (nI sm)), (3, .int (nI j)), (4, .int (nI nn)), (5, .int (nI (v + 1)))] dX0_pacesFrom_55 rfl (nI_1 _) (by decide) rfl ?_
              refine z_goto (pc := 58) gX 27 dX0_pacesFrom_58 (by decide) ?_
              refine z_widen (k := 27 * (v + 1)) (n := 270 * (v + 1)) (by omega) (by omega) ?_
              exact ih27 (v + 1) (upd x2 4 l1_52) tf1_52 bf1_52 ht1_52 (by omega) (by rw [pk_us, hx2, upd_upd]) (pcT_p hu52.1 (by omega)) (by rw [pk_us, show (3 * P + (v + 1)) * 27 = (3 * P + v + 1) * 27 by omega]; exact hu52.2.1) hu52.2.2 (by omega)
        refine z_widen (k := 27 * 0) (n := 270 * 0) (by omega) (by omega) ?_
        exact L27 ((3 - 0) + 1) 0 x tf bf ht (by omega) ((upd_self _ _).symm) hT (by rw [show (3 * P + 0) * 27 = P * 81 by omega]; exact hR) ht0 (Nat.lt_succ_self _)
    · skip
      exact z_vret gX hQX (tf, bf, x 4, ht) (⟨hT, pc_cut ham rfl hnn hP hR c6 (by rw [← hsm]; exact c14), ht0⟩) rfl (by simp only [upd_self]) (by first | decide | omega) (by first | decide | omega) dX0_pacesFrom_17

set_option maxHeartbeats 4000000 in
theorem met_pacesR_5 (l : Launch) (D : va_G) (B0 : Nat) (A : Nat → Prop) (o : Nat) (ad : Nat → Nat) (sa : Nat → Nat) (sb : Nat → Nat) (tr : Nat) (x : Nat → Int32) (wn : Int32) (md : Int32) (d : Nat) (n : Nat) (c : Nat → Int32) (od : Nat → Int32) (ra : Nat → Nat) (T : va_W) (k : Nat) (ht : sT) (tf : Nat → Int32) (bf : Nat → Int32) (j : Nat) (nn : Nat) (P : Nat) (at_ : Nat) (sm : Nat) (hG : gOK T n k ra c) (ht0 : tOK ht) (hj : j < n) (hnn : nn ≤ 6) (ham : at_ + 5 = nn) (hP : P < 3 ^ at_) (hsm : sm = rnS at_ P at_) (hT : pcT at_ P tf) (hR : pcR n k c j nn (P * 243) (x 4) bf) : Met l yX0_pacesFrom (ws_ yX0_pacesFrom cX0_pacesFrom 6 none) (zRm 15 243 2430) (va_Pc [.ref o, .int (nI at_), .int (nI sm), .int (nI j), .int (nI nn)] (zPre B0 D A [cOb o ad (sa 0) (sb 0) tr x, [(ad 4, .inl (D.1 100, 6, .inl tf))], [(ad 5, .inl (D.1 100, 6, .inl bf))], [(sa 0, .inr (2, [.int (c 16), .int (c 1), .int (c 0), .int wn, .ref (sa 1), .ref (sa 2), .ref (sa 3), .ref (sa 4)]))], [(sa 1, .inr (16, [.int md, .ref d, .int (nI n)]))], [(sa 2, .inl (D.1 100, 7, .inl (fun i_ => c (9 + i_))))], [(sa 3, .inl (D.1 100, 7, .inl (fun i_ => c (2 + i_))))], [(sa 4, .inl (D.1 100, 7, .inl od))], [(d, .inl (D.1 104, 10, .inr (.inr (.inr (.inr (rF ra n))))))], thP D sb ht, T])) (zQ (S := (Nat → Int32) × (Nat → Int32) × Int32 × sT) (fun u => (fun (tf1 : Nat → Int32) (bf1 : Nat → Int32) (l1 : Int32) (ht1 : sT) => pcT at_ P tf1 ∧ pcR n k c j nn ((P + 1) * 243) l1 bf1 ∧ tOK ht1) u.1 u.2.1 u.2.2.1 u.2.2.2) (fun u => (fun (tf1 : Nat → Int32) (bf1 : Nat → Int32) (l1 : Int32) (ht1 : sT) => none) u.1 u.2.1 u.2.2.1 u.2.2.2) (fun u => (fun (tf1 : Nat → Int32) (bf1 : Nat → Int32) (l1 : Int32) (ht1 : sT) => [cOb o ad (sa 0) (sb 0) tr (upd x 4 l1), [(ad 4, .inl (D.1 100, 6, .inl tf1))], [(ad 5, .inl (D.1 100, 6, .inl bf1))], [(sa 0, .inr (2, [.int (c 16), .int (c 1), .int (c 0), .int wn, .ref (sa 1), .ref (sa 2), .ref (sa 3), .ref (sa 4)]))], [(sa 1, .inr (16, [.int md, .ref d, .int (nI n)]))], [(sa 2, .inl (D.1 100, 7, .inl (fun i_ => c (9 + i_))))], [(sa 3, .inl (D.1 100, 7, .inl (fun i_ => c (2 + i_))))], [(sa 4, .inl (D.1 100, 7, .inl od))], [(d, .inl (D.1 104, 10, .inr (.inr (.inr (.inr (rF ra n))))))], thP D sb ht1, T]) u.1 u.2.1 u.2.2.1 u.2.2.2) D A) 243 2430 A := by
  refine z_entry (by decide +kernel) (Nat.le_of_ble_eq_true rfl) (fun pX eX sX mX argsX blX mtX cX QX hQX gX hAX hnm => ?_)
  refine z_eq (lv₂ := [(0, .ref o), (1, .int (nI at_)), (2, .int (nI sm)), (3, .int (nI j)), (4, .int (nI nn))]) (st₂ := []) ?_ rfl rfl
  have hK := hG.k
  have hn7 := hG.2.1
  have hsl : sm ≤ 12 := by have := rnS_le at_ P at_; omega
  refine z_aload_n (pc := 0) gX 0 dX0_pacesFrom_0 rfl rfl ?_
  refine z_get (pc := 1) gX (zI_ok gX hAX) (zm 0 rfl) (ci := 0) (C := RX0) (T := TX0) (N := 14) rfl in_X0 13 (by decide) q222 (fun _ h => h) (v := .int (x 4)) rfl dX0_pacesFrom_1 ?_
  refine z_ldc (pc := 4) gX q1003 dX0_pacesFrom_4 ?_
  refine z_icmp_eq (pc := 6) gX 18 dX0_pacesFrom_6 (by decide) (fun c6 => ?_) (fun c6 => ?_)
  · skip
    refine z_iload_n (pc := 18) gX 1 dX0_pacesFrom_18 rfl rfl ?_
    refine z_iload (pc := 19) gX 4 dX0_pacesFrom_19 rfl ?_
    refine z_icmp_ge (pc := 21) gX 62 dX0_pacesFrom_21 (by decide) (fun c21 => ?_) (fun c21 => ?_)
    · skip
      have k21 : nn ≤ at_ := (zn_le (a := nn) (b := at_) (by omega) (by omega)).mp c21
      exact absurd k21 (by omega)
    · skip
      have k21 : at_ < nn := (zn_nle (a := nn) (b := at_) (by omega) (by omega)).mp c21
      refine z_iconst (pc := 24) gX 0 dX0_pacesFrom_24 (by decide) ?_
      refine z_istore (pc := 25) gX [1, 2, 3, 4, 5, 0] [(0, .ref o), (1, .int (nI at_)), (2, .int (nI sm)), (3, .int (nI j)), (4, .int (nI nn)), (5, .int 0)] dX0_pacesFrom_25 (by decide) rfl ?_
      have L27 : ∀ (n27 : Nat) (v : Nat) (x2 : Nat → Int32) (tf2 : Nat → Int32) (bf2 : Nat → Int32) (h2 : sT), (v ≤ 3) → (x2 = upd x 4 (x2 4)) → (pcT at_ P tf2) → (pcR n k c j nn ((3 * P + v) * 81) (x2 4) bf2) → (tOK h2) → 3 - v < n27 → zJ pX l eX (zRm 15 243 2430) sX mX argsX blX mtX cX QX 6 (zI D A sX [cOb o ad (sa 0) (sb 0) tr x2, [(ad 4, .inl (D.1 100, 6, .inl tf2))], [(ad 5, .inl (D.1 100, 6, .inl bf2))], [(sa 0, .inr (2, [.int (c 16), .int (c 1), .int (c 0), .int wn, .ref (sa 1), .ref (sa 2), .ref (sa 3), .ref (sa 4)]))], [(sa 1, .inr (16, [.int md, .ref d, .int (nI n)]))], [(sa 2, .inl (D.1 100, 7, .inl (fun i_ => c (9 + i_))))], [(sa 3, .inl (D.1 100, 7, .inl (fun i_ => c (2 + i_))))], [(sa 4, .inl (D.1 100, 7, .inl od))], [(d, .inl (D.1 104, 10, .inr (.inr (.inr (.inr (rF ra n))))))], thP D sb h2, T]) (81 * v) (810 * v) 27 [(0, .ref o), (1, .int (nI at_)), (2, .int (nI sm)), (3, .int (nI j)), (4, .int (nI nn)), (5, .int (nI v))] [] := by
        intro n27
        induction n27 with
        | zero => exact fun v x2 tf2 bf2 h2 hv hx2 hT2 hR2 ht2 hm27 => absurd hm27 (Nat.not_lt_zero _)
        | succ n27 ih27 =>
          intro v x2 tf2 bf2 h2 hv hx2 hT2 hR2 ht2 hm27
          refine z_iload (pc := 27) gX 5 dX0_pacesFrom_27 rfl ?_
          refine z_iconst (pc := 29) gX 2 dX0_pacesFrom_29 (by decide) ?_
          refine z_icmp_gt (pc := 30) gX 61 dX0_pacesFrom_30 (by decide) (fun c30 => ?_) (fun c30 => ?_)
          · skip
            have k30 : 2 < v := (zn_lt (a := 2) (b := v) (by omega) (by omega)).mp c30
            exact z_vret gX hQX (tf2, bf2, x2 4, h2) (⟨hT2, by rw [show (P + 1) * 243 = (3 * P + v) * 81 by omega]; exact hR2, ht2⟩) rfl (by simp only [← hx2]) (by first | decide | omega) (by first | decide | omega) dX0_pacesFrom_61
          · skip
            have k30 : v ≤ 2 := (zn_nlt (a := 2) (b := v) (by omega) (by omega)).mp c30
            refine z_aload_n (pc := 33) gX 0 dX0_pacesFrom_33 rfl rfl ?_
            refine z_get (pc := 34) gX (zI_ok gX hAX) (zm 0 rfl) (ci := 0) (C := RX0) (T := TX0) (N := 14) rfl in_X0 11 (by decide) q220 (fun _ h => h) (v := .ref (ad 4)) rfl dX0_pacesFrom_34 ?_
            refine z_iload_n (pc := 37) gX 1 dX0_pacesFrom_37 rfl rfl ?_
            refine z_iload (pc := 38) gX 5 dX0_pacesFrom_38 rfl ?_
            refine z_iast (pc := 40) gX hAX 1 (j := at_) (n := 6) (f := tf2) rfl (by omega) (by decide) [cOb o ad (sa 0) (sb 0) tr x2, [(ad 4, .inl (D.1 100, 6, .inl (upd tf2 at_ (nI v))))], [(ad 5, .inl (D.1 100, 6, .inl bf2))], [(sa 0, .inr (2, [.int (c 16), .int (c 1), .int (c 0), .int wn, .ref (sa 1), .ref (sa 2), .ref (sa 3), .ref (sa 4)]))], [(sa 1, .inr (16, [.int md, .ref d, .int (nI n)]))], [(sa 2, .inl (D.1 100, 7, .inl (fun i_ => c (9 + i_))))], [(sa 3, .inl (D.1 100, 7, .inl (fun i_ => c (2 + i_))))], [(sa 4, .inl (D.1 100, 7, .inl od))], [(d, .inl (D.1 104, 10, .inr (.inr (.inr (.inr (rF ra n))))))], thP D sb h2, T] rfl dX0_pacesFrom_40 ?_
            refine z_aload_n (pc := 41) gX 0 dX0_pacesFrom_41 rfl rfl ?_
            refine z_iload_n (pc := 42) gX 1 dX0_pacesFrom_42 rfl rfl ?_
            refine z_iconst (pc := 43) gX 1 dX0_pacesFrom_43 (by decide) ?_
            refine z_iadd (pc := 44) gX dX0_pacesFrom_44 ?_
            refine z_top (nI (at_ + 1)) (nI_add at_ 1) ?_
            refine z_iload_n (pc := 45) gX 2 dX0_pacesFrom_45 rfl rfl ?_
            refine z_iload (pc := 46) gX 5 dX0_pacesFrom_46 rfl ?_
            refine z_iadd (pc := 48) gX dX0_pacesFrom_48 ?_
            refine z_top (nI (sm + v)) (nI_add sm v) ?_
            refine z_iload_n (pc := 49) gX 3 dX0_pacesFrom_49 rfl rfl ?_
            refine z_iload (pc := 50) gX 4 dX0_pacesFrom_50 rfl ?_
            refine z_cMV (pc := 52) gX hAX [.int (nI (at_ + 1)), .int (nI (sm + v)), .int (nI j), .int (nI nn)] [] [0, 1, 2, 3, 4, 5, 6, 7, 8, 9, 10] [] (fun A1 => met_pacesR_4 l D B0 A1 o ad sa sb tr x2 wn md d n c od ra T k h2 (upd tf2 at_ (nI v)) bf2 j nn (3 * P + v) (at_ + 1) (sm + v) hG ht2 hj hnn (by omega) (by rw [Nat.pow_succ]; omega) (by rw [rnS_s (by omega), hsm]) (pcT_s hT2 (by omega)) hR2) q1031 q1033 qs24 q47 q1034 (zm 0 rfl) (ci := 0) rfl rfl hd_X0_pacesFrom ⟨rfl, rfl⟩ ⟨(Nat.le_of_ble_eq_true rfl), (Nat.le_of_ble_eq_true rfl)⟩ rfl rfl (zpl 11 rfl (by decide +kernel)) rfl rfl (Nat.le_of_ble_eq_true rfl) ⟨(by first | decide | (simp only [zRm]; omega)), (by first | decide | (simp only [zRm]; omega))⟩ dX0_pacesFrom_52 ?_
            intro u52 hu52
            obtain ⟨tf1_52, bf1_52, l1_52, ht1_52⟩ := u52
            have hu52 : pcT (at_ + 1) (3 * P + v) tf1_52 ∧ pcR n k c j nn (((3 * P + v) + 1) * 81) l1_52 bf1_52 ∧ tOK ht1_52 := hu52
            refine z_re [0, 1, 2, 3, 4, 5, 6, 7, 8, 9, 10] [cOb o ad (sa 0) (sb 0) tr (upd x2 4 l1_52), [(ad 4, .inl (D.1 100, 6, .inl tf1_52))], [(ad 5, .inl (D.1 100, 6, .inl bf1_52))], [(sa 0, .inr (2, [.int (c 16), .int (c 1), .int (c 0), .int wn, .ref (sa 1), .ref (sa 2), .ref (sa 3), .ref (sa 4)]))], [(sa 1, .inr (16, [.int md, .ref d, .int (nI n)]))], [(sa 2, .inl (D.1 100, 7, .inl (fun i_ => c (9 + i_))))], [(sa 3, .inl (D.1 100, 7, .inl (fun i_ => c (2 + i_))))], [(sa 4, .inl (D.1 100, 7, .inl od))], [(d, .inl (D.1 104, 10, .inr (.inr (.inr (.inr (rF ra n))))))], thP D sb ht1_52, T] rfl (zpl 11 rfl (by decide +kernel)) ?_
            refine z_norm [cOb o ad (sa 0) (sb 0) tr (upd x2 4 l1_52), [(ad 4, .inl (D.1 100, 6, .inl tf1_52))], [(ad 5, .inl (D.1 100, 6, .inl bf1_52))], [(sa 0, .inr (2, [.int (c 16), .int (c 1), .int (c 0), .int wn, .ref (sa 1), .ref (sa 2), .ref (sa 3), .ref (sa 4)]))], [(sa 1, .inr (16, [.int md, .ref d, .int (nI n)]))], [(sa 2, .inl (D.1 100, 7, .inl (fun i_ => c (9 + i_))))], [(sa 3, .inl (D.1 100, 7, .inl (fun i_ => c (2 + i_))))], [(sa 4, .inl (D.1 100, 7, .inl od))], [(d, .inl (D.1 104, 10, .inr (.inr (.inr (.inr (rF ra n))))))], thP D sb ht1_52, T] (81 * v + 81) (810 * v + 810) ?_ rfl rfl rfl
            refine z_eq (lv₂ := [(0, .ref o), (1, .int (nI at_)), (2, .int (nI sm)), (3, .int (nI j)), (4, .int (nI nn)), (5, .int (nI v))]) (st₂ := []) ?_ rfl rfl
            refine z_iinc (pc := 55) gX 5 (nI (v + 1)) [1, 2, 3, 4, 5, 0] [(0, .ref o), (1, .int (nI at_)), (2, .int (nI sm)), (3, .int (nI j)), (4, .int (nI nn)), (5, .int (nI (v + 1)))] dX0_pacesFrom_55 rfl (nI_1 _) (by decide) rfl ?_
            refine z_goto (pc := 58) gX 27 dX0_pacesFrom_58 (by decide) ?_
            refine z_widen (k := 81 * (v + 1)) (n := 810 * (v + 1)) (by omega) (by omega) ?_
            exact ih27 (v + 1) (upd x2 4 l1_52) tf1_52 bf1_52 ht1_52 (by omega) (by rw [pk_us, hx2, upd_upd]) (pcT_p hu52.1 (by omega)) (by rw [pk_us, show (3 * P + (v + 1)) * 81 = (3 * P + v + 1) * 81 by omega]; exact hu52.2.1) hu52.2.2 (by omega)
      refine z_widen (k := 81 * 0) (n := 810 * 0) (by omega) (by omega) ?_
      exact L27 ((3 - 0) + 1) 0 x tf bf ht (by omega) ((upd_self _ _).symm) hT (by rw [show (3 * P + 0) * 81 = P * 243 by omega]; exact hR) ht0 (Nat.lt_succ_self _)
  · skip
    refine z_iload_n (pc := 9) gX 2 dX0_pacesFrom_9 rfl rfl ?_
    refine z_aload_n (pc := 10) gX 0 dX0_pacesFrom_10 rfl rfl ?_
    refine z_get (pc := 11) gX (zI_ok gX hAX) (zm 0 rfl) (ci := 0) (C := RX0) (T := TX0) (N := 14) rfl in_X0 13 (by decide) q222 (fun _ h => h) (v := .int (x 4)) rfl dX0_pacesFrom_11 ?_
    refine z_icmp_lt (pc := 14) gX 18 dX0_pacesFrom_14 (by decide) (fun c14 => ?_) (fun c14 => ?_)
    · skip
      refine z_iload_n (pc := 18) gX 1 dX0_pacesFrom_18 rfl rfl ?_
      refine z_iload (pc := 19) gX 4 dX0_pacesFrom_19 rfl ?_
      refine z_icmp_ge (pc := 21) gX 62 dX0_pacesFrom_21 (by decide) (fun c21 => ?_) (fun c21 => ?_)
      · skip
        have k21 : nn ≤ at_ := (zn_le (a := nn) (b := at_) (by omega) (by omega)).mp c21
        exact absurd k21 (by omega)
      · skip
        have k21 : at_ < nn := (zn_nle (a := nn) (b := at_) (by omega) (by omega)).mp c21
        refine z_iconst (pc := 24) gX 0 dX0_pacesFrom_24 (by decide) ?_
        refine z_istore (pc := 25) gX [1, 2, 3, 4, 5, 0] [(0, .ref o), (1, .int (nI at_)), (2, .int (nI sm)), (3, .int (nI j)), (4, .int (nI nn)), (5, .int 0)] dX0_pacesFrom_25 (by decide) rfl ?_
        have L27 : ∀ (n27 : Nat) (v : Nat) (x2 : Nat → Int32) (tf2 : Nat → Int32) (bf2 : Nat → Int32) (h2 : sT), (v ≤ 3) → (x2 = upd x 4 (x2 4)) → (pcT at_ P tf2) → (pcR n k c j nn ((3 * P + v) * 81) (x2 4) bf2) → (tOK h2) → 3 - v < n27 → zJ pX l eX (zRm 15 243 2430) sX mX argsX blX mtX cX QX 6 (zI D A sX [cOb o ad (sa 0) (sb 0) tr x2, [(ad 4, .inl (D.1 100, 6, .inl tf2))], [(ad 5, .inl (D.1 100, 6, .inl bf2))], [(sa 0, .inr (2, [.int (c 16), .int (c 1), .int (c 0), .int wn, .ref (sa 1), .ref (sa 2), .ref (sa 3), .ref (sa 4)]))], [(sa 1, .inr (16, [.int md, .ref d, .int (nI n)]))], [(sa 2, .inl (D.1 100, 7, .inl (fun i_ => c (9 + i_))))], [(sa 3, .inl (D.1 100, 7, .inl (fun i_ => c (2 + i_))))], [(sa 4, .inl (D.1 100, 7, .inl od))], [(d, .inl (D.1 104, 10, .inr (.inr (.inr (.inr (rF ra n))))))], thP D sb h2, T]) (81 * v) (810 * v) 27 [(0, .ref o), (1, .int (nI at_)), (2, .int (nI sm)), (3, .int (nI j)), (4, .int (nI nn)), (5, .int (nI v))] [] := by
          intro n27
          induction n27 with
          | zero => exact fun v x2 tf2 bf2 h2 hv hx2 hT2 hR2 ht2 hm27 => absurd hm27 (Nat.not_lt_zero _)
          | succ n27 ih27 =>
            intro v x2 tf2 bf2 h2 hv hx2 hT2 hR2 ht2 hm27
            refine z_iload (pc := 27) gX 5 dX0_pacesFrom_27 rfl ?_
            refine z_iconst (pc := 29) gX 2 dX0_pacesFrom_29 (by decide) ?_
            refine z_icmp_gt (pc := 30) gX 61 dX0_pacesFrom_30 (by decide) (fun c30 => ?_) (fun c30 => ?_)
            · skip
              have k30 : 2 < v := (zn_lt (a := 2) (b := v) (by omega) (by omega)).mp c30
              exact z_vret gX hQX (tf2, bf2, x2 4, h2) (⟨hT2, by rw [show (P + 1) * 243 = (3 * P + v) * 81 by omega]; exact hR2, ht2⟩) rfl (by simp only [← hx2]) (by first | decide | omega) (by first | decide | omega) dX0_pacesFrom_61
            · skip
              have k30 : v ≤ 2 := (zn_nlt (a := 2) (b := v) (by omega) (by omega)).mp c30
              refine z_aload_n (pc := 33) gX 0 dX0_pacesFrom_33 rfl rfl ?_
              refine z_get (pc := 34) gX (zI_ok gX hAX) (zm 0 rfl) (ci := 0) (C := RX0) (T := TX0) (N := 14) rfl in_X0 11 (by decide) q220 (fun _ h => h) (v := .ref (ad 4)) rfl dX0_pacesFrom_34 ?_
              refine z_iload_n (pc := 37) gX 1 dX0_pacesFrom_37 rfl rfl ?_
              refine z_iload (pc := 38) gX 5 dX0_pacesFrom_38 rfl ?_
              refine z_iast (pc := 40) gX hAX 1 (j := at_) (n := 6) (f := tf2) rfl (by omega) (by decide) [cOb o ad (sa 0) (sb 0) tr x2, [(ad 4, .inl (D.1 100, 6, .inl (upd tf2 at_ (nI v))))], [(ad 5, .inl (D.1 100, 6, .inl bf2))], [(sa 0, .inr (2, [.int (c 16), .int (c 1), .int (c 0), .int wn, .ref (sa 1), .ref (sa 2), .ref (sa 3), .ref (sa 4)]))], [(sa 1, .inr (16, [.int md, .ref d, .int (nI n)]))], [(sa 2, .inl (D.1 100, 7, .inl (fun i_ => c (9 + i_))))], [(sa 3, .inl (D.1 100, 7, .inl (fun i_ => c (2 + i_))))], [(sa 4, .inl (D.1 100, 7, .inl od))], [(d, .inl (D.1 104, 10, .inr (.inr (.inr (.inr (rF ra n))))))], thP D sb h2, T] rfl dX0_pacesFrom_40 ?_
              refine z_aload_n (pc := 41) gX 0 dX0_pacesFrom_41 rfl rfl ?_
              refine z_iload_n (pc := 42) gX 1 dX0_pacesFrom_42 rfl rfl ?_
              refine z_iconst (pc := 43) gX 1 dX0_pacesFrom_43 (by decide) ?_
              refine z_iadd (pc := 44) gX dX0_pacesFrom_44 ?_
              refine z_top (nI (at_ + 1)) (nI_add at_ 1) ?_
              refine z_iload_n (pc := 45) gX 2 dX0_pacesFrom_45 rfl rfl ?_
              refine z_iload (pc := 46) gX 5 dX0_pacesFrom_46 rfl ?_
              refine z_iadd (pc := 48) gX dX0_pacesFrom_48 ?_
              refine z_top (nI (sm + v)) (nI_add sm v) ?_
              refine z_iload_n (pc := 49) gX 3 dX0_pacesFrom_49 rfl rfl ?_
              refine z_iload (pc := 50) gX 4 dX0_pacesFrom_50 rfl ?_
              refine z_cMV (pc := 52) gX hAX [.int (nI (at_ + 1)), .int (nI (sm + v)), .int (nI j), .int (nI nn)] [] [0, 1, 2, 3, 4, 5, 6, 7, 8, 9, 10] [] (fun A1 => met_pacesR_4 l D B0 A1 o ad sa sb tr x2 wn md d n c od ra T k h2 (upd tf2 at_ (nI v)) bf2 j nn (3 * P + v) (at_ + 1) (sm + v) hG ht2 hj hnn (by omega) (by rw [Nat.pow_succ]; omega) (by rw [rnS_s (by omega), hsm]) (pcT_s hT2 (by omega)) hR2) q1031 q1033 qs24 q47 q1034 (zm 0 rfl) (ci := 0) rfl rfl hd_X0_pacesFrom ⟨rfl, rfl⟩ ⟨(Nat.le_of_ble_eq_true rfl), (Nat.le_of_ble_eq_true rfl)⟩ rfl rfl (zpl 11 rfl (by decide +kernel)) rfl rfl (Nat.le_of_ble_eq_true rfl) ⟨(by first | decide | (simp only [zRm]; omega)), (by first | decide | (simp only [zRm]; omega))⟩ dX0_pacesFrom_52 ?_
              intro u52 hu52
              obtain ⟨tf1_52, bf1_52, l1_52, ht1_52⟩ := u52
              have hu52 : pcT (at_ + 1) (3 * P + v) tf1_52 ∧ pcR n k c j nn (((3 * P + v) + 1) * 81) l1_52 bf1_52 ∧ tOK ht1_52 := hu52
              refine z_re [0, 1, 2, 3, 4, 5, 6, 7, 8, 9, 10] [cOb o ad (sa 0) (sb 0) tr (upd x2 4 l1_52), [(ad 4, .inl (D.1 100, 6, .inl tf1_52))], [(ad 5, .inl (D.1 100, 6, .inl bf1_52))], [(sa 0, .inr (2, [.int (c 16), .int (c 1), .int (c 0), .int wn, .ref (sa 1), .ref (sa 2), .ref (sa 3), .ref (sa 4)]))], [(sa 1, .inr (16, [.int md, .ref d, .int (nI n)]))], [(sa 2, .inl (D.1 100, 7, .inl (fun i_ => c (9 + i_))))], [(sa 3, .inl (D.1 100, 7, .inl (fun i_ => c (2 + i_))))], [(sa 4, .inl (D.1 100, 7, .inl od))], [(d, .inl (D.1 104, 10, .inr (.inr (.inr (.inr (rF ra n))))))], thP D sb ht1_52, T] rfl (zpl 11 rfl (by decide +kernel)) ?_
              refine z_norm [cOb o ad (sa 0) (sb 0) tr (upd x2 4 l1_52), [(ad 4, .inl (D.1 100, 6, .inl tf1_52))], [(ad 5, .inl (D.1 100, 6, .inl bf1_52))], [(sa 0, .inr (2, [.int (c 16), .int (c 1), .int (c 0), .int wn, .ref (sa 1), .ref (sa 2), .ref (sa 3), .ref (sa 4)]))], [(sa 1, .inr (16, [.int md, .ref d, .int (nI n)]))], [(sa 2, .inl (D.1 100, 7, .inl (fun i_ => c (9 + i_))))], [(sa 3, .inl (D.1 100, 7, .inl (fun i_ => c (2 + i_))))], [(sa 4, .inl (D.1 100, 7, .inl od))], [(d, .inl (D.1 104, 10, .inr (.inr (.inr (.inr (rF ra n))))))], thP D sb ht1_52, T] (81 * v + 81) (810 * v + 810) ?_ rfl rfl rfl
              refine z_eq (lv₂ := [(0, .ref o), (1, .int (nI at_)), (2, .int (nI sm)), (3, .int (nI j)), (4, .int (nI nn)), (5, .int (nI v))]) (st₂ := []) ?_ rfl rfl
              refine z_iinc (pc := 55) gX 5 (nI (v + 1)) [1, 2, 3, 4, 5, 0] [(0, .ref o), (1, .int (nI at_)), (2, .int (nI sm)), (3, .int (nI j)), (4, .int (nI nn)), (5, .int (nI (v + 1)))] dX0_pacesFrom_55 rfl (nI_1 _) (by decide) rfl ?_
              refine z_goto (pc := 58) gX 27 dX0_pacesFrom_58 (by decide) ?_
              refine z_widen (k := 81 * (v + 1)) (n := 810 * (v + 1)) (by omega) (by omega) ?_
              exact ih27 (v + 1) (upd x2 4 l1_52) tf1_52 bf1_52 ht1_52 (by omega) (by rw [pk_us, hx2, upd_upd]) (pcT_p hu52.1 (by omega)) (by rw [pk_us, show (3 * P + (v + 1)) * 81 = (3 * P + v + 1) * 81 by omega]; exact hu52.2.1) hu52.2.2 (by omega)
        refine z_widen (k := 81 * 0) (n := 810 * 0) (by omega) (by omega) ?_
        exact L27 ((3 - 0) + 1) 0 x tf bf ht (by omega) ((upd_self _ _).symm) hT (by rw [show (3 * P + 0) * 81 = P * 243 by omega]; exact hR) ht0 (Nat.lt_succ_self _)
    · skip
      exact z_vret gX hQX (tf, bf, x 4, ht) (⟨hT, pc_cut ham rfl hnn hP hR c6 (by rw [← hsm]; exact c14), ht0⟩) rfl (by simp only [upd_self]) (by first | decide | omega) (by first | decide | omega) dX0_pacesFrom_17

set_option maxHeartbeats 4000000 in
theorem met_pacesR_6 (l : Launch) (D : va_G) (B0 : Nat) (A : Nat → Prop) (o : Nat) (ad : Nat → Nat) (sa : Nat → Nat) (sb : Nat → Nat) (tr : Nat) (x : Nat → Int32) (wn : Int32) (md : Int32) (d : Nat) (n : Nat) (c : Nat → Int32) (od : Nat → Int32) (ra : Nat → Nat) (T : va_W) (k : Nat) (ht : sT) (tf : Nat → Int32) (bf : Nat → Int32) (j : Nat) (nn : Nat) (P : Nat) (at_ : Nat) (sm : Nat) (hG : gOK T n k ra c) (ht0 : tOK ht) (hj : j < n) (hnn : nn ≤ 6) (ham : at_ + 6 = nn) (hP : P < 3 ^ at_) (hsm : sm = rnS at_ P at_) (hT : pcT at_ P tf) (hR : pcR n k c j nn (P * 729) (x 4) bf) : Met l yX0_pacesFrom (ws_ yX0_pacesFrom cX0_pacesFrom 6 none) (zRm 16 729 7290) (va_Pc [.ref o, .int (nI at_), .int (nI sm), .int (nI j), .int (nI nn)] (zPre B0 D A [cOb o ad (sa 0) (sb 0) tr x, [(ad 4, .inl (D.1 100, 6, .inl tf))], [(ad 5, .inl (D.1 100, 6, .inl bf))], [(sa 0, .inr (2, [.int (c 16), .int (c 1), .int (c 0), .int wn, .ref (sa 1), .ref (sa 2), .ref (sa 3), .ref (sa 4)]))], [(sa 1, .inr (16, [.int md, .ref d, .int (nI n)]))], [(sa 2, .inl (D.1 100, 7, .inl (fun i_ => c (9 + i_))))], [(sa 3, .inl (D.1 100, 7, .inl (fun i_ => c (2 + i_))))], [(sa 4, .inl (D.1 100, 7, .inl od))], [(d, .inl (D.1 104, 10, .inr (.inr (.inr (.inr (rF ra n))))))], thP D sb ht, T])) (zQ (S := (Nat → Int32) × (Nat → Int32) × Int32 × sT) (fun u => (fun (tf1 : Nat → Int32) (bf1 : Nat → Int32) (l1 : Int32) (ht1 : sT) => pcT at_ P tf1 ∧ pcR n k c j nn ((P + 1) * 729) l1 bf1 ∧ tOK ht1) u.1 u.2.1 u.2.2.1 u.2.2.2) (fun u => (fun (tf1 : Nat → Int32) (bf1 : Nat → Int32) (l1 : Int32) (ht1 : sT) => none) u.1 u.2.1 u.2.2.1 u.2.2.2) (fun u => (fun (tf1 : Nat → Int32) (bf1 : Nat → Int32) (l1 : Int32) (ht1 : sT) => [cOb o ad (sa 0) (sb 0) tr (upd x 4 l1), [(ad 4, .inl (D.1 100, 6, .inl tf1))], [(ad 5, .inl (D.1 100, 6, .inl bf1))], [(sa 0, .inr (2, [.int (c 16), .int (c 1), .int (c 0), .int wn, .ref (sa 1), .ref (sa 2), .ref (sa 3), .ref (sa 4)]))], [(sa 1, .inr (16, [.int md, .ref d, .int (nI n)]))], [(sa 2, .inl (D.1 100, 7, .inl (fun i_ => c (9 + i_))))], [(sa 3, .inl (D.1 100, 7, .inl (fun i_ => c (2 + i_))))], [(sa 4, .inl (D.1 100, 7, .inl od))], [(d, .inl (D.1 104, 10, .inr (.inr (.inr (.inr (rF ra n))))))], thP D sb ht1, T]) u.1 u.2.1 u.2.2.1 u.2.2.2) D A) 729 7290 A := by
  refine z_entry (by decide +kernel) (Nat.le_of_ble_eq_true rfl) (fun pX eX sX mX argsX blX mtX cX QX hQX gX hAX hnm => ?_)
  refine z_eq (lv₂ := [(0, .ref o), (1, .int (nI at_)), (2, .int (nI sm)), (3, .int (nI j)), (4, .int (nI nn))]) (st₂ := []) ?_ rfl rfl
  have hK := hG.k
  have hn7 := hG.2.1
  have hsl : sm ≤ 12 := by have := rnS_le at_ P at_; omega
  refine z_aload_n (pc := 0) gX 0 dX0_pacesFrom_0 rfl rfl ?_
  refine z_get (pc := 1) gX (zI_ok gX hAX) (zm 0 rfl) (ci := 0) (C := RX0) (T := TX0) (N := 14) rfl in_X0 13 (by decide) q222 (fun _ h => h) (v := .int (x 4)) rfl dX0_pacesFrom_1 ?_
  refine z_ldc (pc := 4) gX q1003 dX0_pacesFrom_4 ?_
  refine z_icmp_eq (pc := 6) gX 18 dX0_pacesFrom_6 (by decide) (fun c6 => ?_) (fun c6 => ?_)
  · skip
    refine z_iload_n (pc := 18) gX 1 dX0_pacesFrom_18 rfl rfl ?_
    refine z_iload (pc := 19) gX 4 dX0_pacesFrom_19 rfl ?_
    refine z_icmp_ge (pc := 21) gX 62 dX0_pacesFrom_21 (by decide) (fun c21 => ?_) (fun c21 => ?_)
    · skip
      have k21 : nn ≤ at_ := (zn_le (a := nn) (b := at_) (by omega) (by omega)).mp c21
      exact absurd k21 (by omega)
    · skip
      have k21 : at_ < nn := (zn_nle (a := nn) (b := at_) (by omega) (by omega)).mp c21
      refine z_iconst (pc := 24) gX 0 dX0_pacesFrom_24 (by decide) ?_
      refine z_istore (pc := 25) gX [1, 2, 3, 4, 5, 0] [(0, .ref o), (1, .int (nI at_)), (2, .int (nI sm)), (3, .int (nI j)), (4, .int (nI nn)), (5, .int 0)] dX0_pacesFrom_25 (by decide) rfl ?_
      have L27 : ∀ (n27 : Nat) (v : Nat) (x2 : Nat → Int32) (tf2 : Nat → Int32) (bf2 : Nat → Int32) (h2 : sT), (v ≤ 3) → (x2 = upd x 4 (x2 4)) → (pcT at_ P tf2) → (pcR n k c j nn ((3 * P + v) * 243) (x2 4) bf2) → (tOK h2) → 3 - v < n27 → zJ pX l eX (zRm 16 729 7290) sX mX argsX blX mtX cX QX 6 (zI D A sX [cOb o ad (sa 0) (sb 0) tr x2, [(ad 4, .inl (D.1 100, 6, .inl tf2))], [(ad 5, .inl (D.1 100, 6, .inl bf2))], [(sa 0, .inr (2, [.int (c 16), .int (c 1), .int (c 0), .int wn, .ref (sa 1), .ref (sa 2), .ref (sa 3), .ref (sa 4)]))], [(sa 1, .inr (16, [.int md, .ref d, .int (nI n)]))], [(sa 2, .inl (D.1 100, 7, .inl (fun i_ => c (9 + i_))))], [(sa 3, .inl (D.1 100, 7, .inl (fun i_ => c (2 + i_))))], [(sa 4, .inl (D.1 100, 7, .inl od))], [(d, .inl (D.1 104, 10, .inr (.inr (.inr (.inr (rF ra n))))))], thP D sb h2, T]) (243 * v) (2430 * v) 27 [(0, .ref o), (1, .int (nI at_)), (2, .int (nI sm)), (3, .int (nI j)), (4, .int (nI nn)), (5, .int (nI v))] [] := by
        intro n27
        induction n27 with
        | zero => exact fun v x2 tf2 bf2 h2 hv hx2 hT2 hR2 ht2 hm27 => absurd hm27 (Nat.not_lt_zero _)
        | succ n27 ih27 =>
          intro v x2 tf2 bf2 h2 hv hx2 hT2 hR2 ht2 hm27
          refine z_iload (pc := 27) gX 5 dX0_pacesFrom_27 rfl ?_
          refine z_iconst (pc := 29) gX 2 dX0_pacesFrom_29 (by decide) ?_
          refine z_icmp_gt (pc := 30) gX 61 dX0_pacesFrom_30 (by decide) (fun c30 => ?_) (fun c30 => ?_)
          · skip
            have k30 : 2 < v := (zn_lt (a := 2) (b := v) (by omega) (by omega)).mp c30
            exact z_vret gX hQX (tf2, bf2, x2 4, h2) (⟨hT2, by rw [show (P + 1) * 729 = (3 * P + v) * 243 by omega]; exact hR2, ht2⟩) rfl (by simp only [← hx2]) (by first | decide | omega) (by first | decide | omega) dX0_pacesFrom_61
          · skip
            have k30 : v ≤ 2 := (zn_nlt (a := 2) (b := v) (by omega) (by omega)).mp c30
            refine z_aload_n (pc := 33) gX 0 dX0_pacesFrom_33 rfl rfl ?_
            refine z_get (pc := 34) gX (zI_ok gX hAX) (zm 0 rfl) (ci := 0) (C := RX0) (T := TX0) (N := 14) rfl in_X0 11 (by decide) q220 (fun _ h => h) (v := .ref (ad 4)) rfl dX0_pacesFrom_34 ?_
            refine z_iload_n (pc := 37) gX 1 dX0_pacesFrom_37 rfl rfl ?_
            refine z_iload (pc := 38) gX 5 dX0_pacesFrom_38 rfl ?_
            refine z_iast (pc := 40) gX hAX 1 (j := at_) (n := 6) (f := tf2) rfl (by omega) (by decide) [cOb o ad (sa 0) (sb 0) tr x2, [(ad 4, .inl (D.1 100, 6, .inl (upd tf2 at_ (nI v))))], [(ad 5, .inl (D.1 100, 6, .inl bf2))], [(sa 0, .inr (2, [.int (c 16), .int (c 1), .int (c 0), .int wn, .ref (sa 1), .ref (sa 2), .ref (sa 3), .ref (sa 4)]))], [(sa 1, .inr (16, [.int md, .ref d, .int (nI n)]))], [(sa 2, .inl (D.1 100, 7, .inl (fun i_ => c (9 + i_))))], [(sa 3, .inl (D.1 100, 7, .inl (fun i_ => c (2 + i_))))], [(sa 4, .inl (D.1 100, 7, .inl od))], [(d, .inl (D.1 104, 10, .inr (.inr (.inr (.inr (rF ra n))))))], thP D sb h2, T] rfl dX0_pacesFrom_40 ?_
            refine z_aload_n (pc := 41) gX 0 dX0_pacesFrom_41 rfl rfl ?_
            refine z_iload_n (pc := 42) gX 1 dX0_pacesFrom_42 rfl rfl ?_
            refine z_iconst (pc := 43) gX 1 dX0_pacesFrom_43 (by decide) ?_
            refine z_iadd (pc := 44) gX dX0_pacesFrom_44 ?_
            refine z_top (nI (at_ + 1)) (nI_add at_ 1) ?_
            refine z_iload_n (pc := 45) gX 2 dX0_pacesFrom_45 rfl rfl ?_
            refine z_iload (pc := 46) gX 5 dX0_pacesFrom_46 rfl ?_
            refine z_iadd (pc := 48) gX dX0_pacesFrom_48 ?_
            refine z_top (nI (sm + v)) (nI_add sm v) ?_
            refine z_iload_n (pc := 49) gX 3 dX0_pacesFrom_49 rfl rfl ?_
            refine z_iload (pc := 50) gX 4 dX0_pacesFrom_50 rfl ?_
            refine z_cMV (pc := 52) gX hAX [.int (nI (at_ + 1)), .int (nI (sm + v)), .int (nI j), .int (nI nn)] [] [0, 1, 2, 3, 4, 5, 6, 7, 8, 9, 10] [] (fun A1 => met_pacesR_5 l D B0 A1 o ad sa sb tr x2 wn md d n c od ra T k h2 (upd tf2 at_ (nI v)) bf2 j nn (3 * P + v) (at_ + 1) (sm + v) hG ht2 hj hnn (by omega) (by rw [Nat.pow_succ]; omega) (by rw [rnS_s (by omega), hsm]) (pcT_s hT2 (by omega)) hR2) q1031 q1033 qs24 q47 q1034 (zm 0 rfl) (ci := 0) rfl rfl hd_X0_pacesFrom ⟨rfl, rfl⟩ ⟨(Nat.le_of_ble_eq_true rfl), (Nat.le_of_ble_eq_true rfl)⟩ rfl rfl (zpl 11 rfl (by decide +kernel)) rfl rfl (Nat.le_of_ble_eq_true rfl) ⟨(by first | decide | (simp only [zRm]; omega)), (by first | decide | (simp only [zRm]; omega))⟩ dX0_pacesFrom_52 ?_
            intro u52 hu52
            obtain ⟨tf1_52, bf1_52, l1_52, ht1_52⟩ := u52
            have hu52 : pcT (at_ + 1) (3 * P + v) tf1_52 ∧ pcR n k c j nn (((3 * P + v) + 1) * 243) l1_52 bf1_52 ∧ tOK ht1_52 := hu52
            refine z_re [0, 1, 2, 3, 4, 5, 6, 7, 8, 9, 10] [cOb o ad (sa 0) (sb 0) tr (upd x2 4 l1_52), [(ad 4, .inl (D.1 100, 6, .inl tf1_52))], [(ad 5, .inl (D.1 100, 6, .inl bf1_52))], [(sa 0, .inr (2, [.int (c 16), .int (c 1), .int (c 0), .int wn, .ref (sa 1), .ref (sa 2), .ref (sa 3), .ref (sa 4)]))], [(sa 1, .inr (16, [.int md, .ref d, .int (nI n)]))], [(sa 2, .inl (D.1 100, 7, .inl (fun i_ => c (9 + i_))))], [(sa 3, .inl (D.1 100, 7, .inl (fun i_ => c (2 + i_))))], [(sa 4, .inl (D.1 100, 7, .inl od))], [(d, .inl (D.1 104, 10, .inr (.inr (.inr (.inr (rF ra n))))))], thP D sb ht1_52, T] rfl (zpl 11 rfl (by decide +kernel)) ?_
            refine z_norm [cOb o ad (sa 0) (sb 0) tr (upd x2 4 l1_52), [(ad 4, .inl (D.1 100, 6, .inl tf1_52))], [(ad 5, .inl (D.1 100, 6, .inl bf1_52))], [(sa 0, .inr (2, [.int (c 16), .int (c 1), .int (c 0), .int wn, .ref (sa 1), .ref (sa 2), .ref (sa 3), .ref (sa 4)]))], [(sa 1, .inr (16, [.int md, .ref d, .int (nI n)]))], [(sa 2, .inl (D.1 100, 7, .inl (fun i_ => c (9 + i_))))], [(sa 3, .inl (D.1 100, 7, .inl (fun i_ => c (2 + i_))))], [(sa 4, .inl (D.1 100, 7, .inl od))], [(d, .inl (D.1 104, 10, .inr (.inr (.inr (.inr (rF ra n))))))], thP D sb ht1_52, T] (243 * v + 243) (2430 * v + 2430) ?_ rfl rfl rfl
            refine z_eq (lv₂ := [(0, .ref o), (1, .int (nI at_)), (2, .int (nI sm)), (3, .int (nI j)), (4, .int (nI nn)), (5, .int (nI v))]) (st₂ := []) ?_ rfl rfl
            refine z_iinc (pc := 55) gX 5 (nI (v + 1)) [1, 2, 3, 4, 5, 0] [(0, .ref o), (1, .int (nI at_)), (2, .int (nI sm)), (3, .int (nI j)), (4, .int (nI nn)), (5, .int (nI (v + 1)))] dX0_pacesFrom_55 rfl (nI_1 _) (by decide) rfl ?_
            refine z_goto (pc := 58) gX 27 dX0_pacesFrom_58 (by decide) ?_
            refine z_widen (k := 243 * (v + 1)) (n := 2430 * (v + 1)) (by omega) (by omega) ?_
            exact ih27 (v + 1) (upd x2 4 l1_52) tf1_52 bf1_52 ht1_52 (by omega) (by rw [pk_us, hx2, upd_upd]) (pcT_p hu52.1 (by omega)) (by rw [pk_us, show (3 * P + (v + 1)) * 243 = (3 * P + v + 1) * 243 by omega]; exact hu52.2.1) hu52.2.2 (by omega)
      refine z_widen (k := 243 * 0) (n := 2430 * 0) (by omega) (by omega) ?_
      exact L27 ((3 - 0) + 1) 0 x tf bf ht (by omega) ((upd_self _ _).symm) hT (by rw [show (3 * P + 0) * 243 = P * 729 by omega]; exact hR) ht0 (Nat.lt_succ_self _)
  · skip
    refine z_iload_n (pc := 9) gX 2 dX0_pacesFrom_9 rfl rfl ?_
    refine z_aload_n (pc := 10) gX 0 dX0_pacesFrom_10 rfl rfl ?_
    refine z_get (pc := 11) gX (zI_ok gX hAX) (zm 0 rfl) (ci := 0) (C := RX0) (T := TX0) (N := 14) rfl in_X0 13 (by decide) q222 (fun _ h => h) (v := .int (x 4)) rfl dX0_pacesFrom_11 ?_
    refine z_icmp_lt (pc := 14) gX 18 dX0_pacesFrom_14 (by decide) (fun c14 => ?_) (fun c14 => ?_)
    · skip
      refine z_iload_n (pc := 18) gX 1 dX0_pacesFrom_18 rfl rfl ?_
      refine z_iload (pc := 19) gX 4 dX0_pacesFrom_19 rfl ?_
      refine z_icmp_ge (pc := 21) gX 62 dX0_pacesFrom_21 (by decide) (fun c21 => ?_) (fun c21 => ?_)
      · skip
        have k21 : nn ≤ at_ := (zn_le (a := nn) (b := at_) (by omega) (by omega)).mp c21
        exact absurd k21 (by omega)
      · skip
        have k21 : at_ < nn := (zn_nle (a := nn) (b := at_) (by omega) (by omega)).mp c21
        refine z_iconst (pc := 24) gX 0 dX0_pacesFrom_24 (by decide) ?_
        refine z_istore (pc := 25) gX [1, 2, 3, 4, 5, 0] [(0, .ref o), (1, .int (nI at_)), (2, .int (nI sm)), (3, .int (nI j)), (4, .int (nI nn)), (5, .int 0)] dX0_pacesFrom_25 (by decide) rfl ?_
        have L27 : ∀ (n27 : Nat) (v : Nat) (x2 : Nat → Int32) (tf2 : Nat → Int32) (bf2 : Nat → Int32) (h2 : sT), (v ≤ 3) → (x2 = upd x 4 (x2 4)) → (pcT at_ P tf2) → (pcR n k c j nn ((3 * P + v) * 243) (x2 4) bf2) → (tOK h2) → 3 - v < n27 → zJ pX l eX (zRm 16 729 7290) sX mX argsX blX mtX cX QX 6 (zI D A sX [cOb o ad (sa 0) (sb 0) tr x2, [(ad 4, .inl (D.1 100, 6, .inl tf2))], [(ad 5, .inl (D.1 100, 6, .inl bf2))], [(sa 0, .inr (2, [.int (c 16), .int (c 1), .int (c 0), .int wn, .ref (sa 1), .ref (sa 2), .ref (sa 3), .ref (sa 4)]))], [(sa 1, .inr (16, [.int md, .ref d, .int (nI n)]))], [(sa 2, .inl (D.1 100, 7, .inl (fun i_ => c (9 + i_))))], [(sa 3, .inl (D.1 100, 7, .inl (fun i_ => c (2 + i_))))], [(sa 4, .inl (D.1 100, 7, .inl od))], [(d, .inl (D.1 104, 10, .inr (.inr (.inr (.inr (rF ra n))))))], thP D sb h2, T]) (243 * v) (2430 * v) 27 [(0, .ref o), (1, .int (nI at_)), (2, .int (nI sm)), (3, .int (nI j)), (4, .int (nI nn)), (5, .int (nI v))] [] := by
          intro n27
          induction n27 with
          | zero => exact fun v x2 tf2 bf2 h2 hv hx2 hT2 hR2 ht2 hm27 => absurd hm27 (Nat.not_lt_zero _)
          | succ n27 ih27 =>
            intro v x2 tf2 bf2 h2 hv hx2 hT2 hR2 ht2 hm27
            refine z_iload (pc := 27) gX 5 dX0_pacesFrom_27 rfl ?_
            refine z_iconst (pc := 29) gX 2 dX0_pacesFrom_29 (by decide) ?_
            refine z_icmp_gt (pc := 30) gX 61 dX0_pacesFrom_30 (by decide) (fun c30 => ?_) (fun c30 => ?_)
            · skip
              have k30 : 2 < v := (zn_lt (a := 2) (b := v) (by omega) (by omega)).mp c30
              exact z_vret gX hQX (tf2, bf2, x2 4, h2) (⟨hT2, by rw [show (P + 1) * 729 = (3 * P + v) * 243 by omega]; exact hR2, ht2⟩) rfl (by simp only [← hx2]) (by first | decide | omega) (by first | decide | omega) dX0_pacesFrom_61
            · skip
              have k30 : v ≤ 2 := (zn_nlt (a := 2) (b := v) (by omega) (by omega)).mp c30
              refine z_aload_n (pc := 33) gX 0 dX0_pacesFrom_33 rfl rfl ?_
              refine z_get (pc := 34) gX (zI_ok gX hAX) (zm 0 rfl) (ci := 0) (C := RX0) (T := TX0) (N := 14) rfl in_X0 11 (by decide) q220 (fun _ h => h) (v := .ref (ad 4)) rfl dX0_pacesFrom_34 ?_
              refine z_iload_n (pc := 37) gX 1 dX0_pacesFrom_37 rfl rfl ?_
              refine z_iload (pc := 38) gX 5 dX0_pacesFrom_38 rfl ?_
              refine z_iast (pc := 40) gX hAX 1 (j := at_) (n := 6) (f := tf2) rfl (by omega) (by decide) [cOb o ad (sa 0) (sb 0) tr x2, [(ad 4, .inl (D.1 100, 6, .inl (upd tf2 at_ (nI v))))], [(ad 5, .inl (D.1 100, 6, .inl bf2))], [(sa 0, .inr (2, [.int (c 16), .int (c 1), .int (c 0), .int wn, .ref (sa 1), .ref (sa 2), .ref (sa 3), .ref (sa 4)]))], [(sa 1, .inr (16, [.int md, .ref d, .int (nI n)]))], [(sa 2, .inl (D.1 100, 7, .inl (fun i_ => c (9 + i_))))], [(sa 3, .inl (D.1 100, 7, .inl (fun i_ => c (2 + i_))))], [(sa 4, .inl (D.1 100, 7, .inl od))], [(d, .inl (D.1 104, 10, .inr (.inr (.inr (.inr (rF ra n))))))], thP D sb h2, T] rfl dX0_pacesFrom_40 ?_
              refine z_aload_n (pc := 41) gX 0 dX0_pacesFrom_41 rfl rfl ?_
              refine z_iload_n (pc := 42) gX 1 dX0_pacesFrom_42 rfl rfl ?_
              refine z_iconst (pc := 43) gX 1 dX0_pacesFrom_43 (by decide) ?_
              refine z_iadd (pc := 44) gX dX0_pacesFrom_44 ?_
              refine z_top (nI (at_ + 1)) (nI_add at_ 1) ?_
              refine z_iload_n (pc := 45) gX 2 dX0_pacesFrom_45 rfl rfl ?_
              refine z_iload (pc := 46) gX 5 dX0_pacesFrom_46 rfl ?_
              refine z_iadd (pc := 48) gX dX0_pacesFrom_48 ?_
              refine z_top (nI (sm + v)) (nI_add sm v) ?_
              refine z_iload_n (pc := 49) gX 3 dX0_pacesFrom_49 rfl rfl ?_
              refine z_iload (pc := 50) gX 4 dX0_pacesFrom_50 rfl ?_
              refine z_cMV (pc := 52) gX hAX [.int (nI (at_ + 1)), .int (nI (sm + v)), .int (nI j), .int (nI nn)] [] [0, 1, 2, 3, 4, 5, 6, 7, 8, 9, 10] [] (fun A1 => met_pacesR_5 l D B0 A1 o ad sa sb tr x2 wn md d n c od ra T k h2 (upd tf2 at_ (nI v)) bf2 j nn (3 * P + v) (at_ + 1) (sm + v) hG ht2 hj hnn (by omega) (by rw [Nat.pow_succ]; omega) (by rw [rnS_s (by omega), hsm]) (pcT_s hT2 (by omega)) hR2) q1031 q1033 qs24 q47 q1034 (zm 0 rfl) (ci := 0) rfl rfl hd_X0_pacesFrom ⟨rfl, rfl⟩ ⟨(Nat.le_of_ble_eq_true rfl), (Nat.le_of_ble_eq_true rfl)⟩ rfl rfl (zpl 11 rfl (by decide +kernel)) rfl rfl (Nat.le_of_ble_eq_true rfl) ⟨(by first | decide | (simp only [zRm]; omega)), (by first | decide | (simp only [zRm]; omega))⟩ dX0_pacesFrom_52 ?_
              intro u52 hu52
              obtain ⟨tf1_52, bf1_52, l1_52, ht1_52⟩ := u52
              have hu52 : pcT (at_ + 1) (3 * P + v) tf1_52 ∧ pcR n k c j nn (((3 * P + v) + 1) * 243) l1_52 bf1_52 ∧ tOK ht1_52 := hu52
              refine z_re [0, 1, 2, 3, 4, 5, 6, 7, 8, 9, 10] [cOb o ad (sa 0) (sb 0) tr (upd x2 4 l1_52), [(ad 4, .inl (D.1 100, 6, .inl tf1_52))], [(ad 5, .inl (D.1 100, 6, .inl bf1_52))], [(sa 0, .inr (2, [.int (c 16), .int (c 1), .int (c 0), .int wn, .ref (sa 1), .ref (sa 2), .ref (sa 3), .ref (sa 4)]))], [(sa 1, .inr (16, [.int md, .ref d, .int (nI n)]))], [(sa 2, .inl (D.1 100, 7, .inl (fun i_ => c (9 + i_))))], [(sa 3, .inl (D.1 100, 7, .inl (fun i_ => c (2 + i_))))], [(sa 4, .inl (D.1 100, 7, .inl od))], [(d, .inl (D.1 104, 10, .inr (.inr (.inr (.inr (rF ra n))))))], thP D sb ht1_52, T] rfl (zpl 11 rfl (by decide +kernel)) ?_
              refine z_norm [cOb o ad (sa 0) (sb 0) tr (upd x2 4 l1_52), [(ad 4, .inl (D.1 100, 6, .inl tf1_52))], [(ad 5, .inl (D.1 100, 6, .inl bf1_52))], [(sa 0, .inr (2, [.int (c 16), .int (c 1), .int (c 0), .int wn, .ref (sa 1), .ref (sa 2), .ref (sa 3), .ref (sa 4)]))], [(sa 1, .inr (16, [.int md, .ref d, .int (nI n)]))], [(sa 2, .inl (D.1 100, 7, .inl (fun i_ => c (9 + i_))))], [(sa 3, .inl (D.1 100, 7, .inl (fun i_ => c (2 + i_))))], [(sa 4, .inl (D.1 100, 7, .inl od))], [(d, .inl (D.1 104, 10, .inr (.inr (.inr (.inr (rF ra n))))))], thP D sb ht1_52, T] (243 * v + 243) (2430 * v + 2430) ?_ rfl rfl rfl
              refine z_eq (lv₂ := [(0, .ref o), (1, .int (nI at_)), (2, .int (nI sm)), (3, .int (nI j)), (4, .int (nI nn)), (5, .int (nI v))]) (st₂ := []) ?_ rfl rfl
              refine z_iinc (pc := 55) gX 5 (nI (v + 1)) [1, 2, 3, 4, 5, 0] [(0, .ref o), (1, .int (nI at_)), (2, .int (nI sm)), (3, .int (nI j)), (4, .int (nI nn)), (5, .int (nI (v + 1)))] dX0_pacesFrom_55 rfl (nI_1 _) (by decide) rfl ?_
              refine z_goto (pc := 58) gX 27 dX0_pacesFrom_58 (by decide) ?_
              refine z_widen (k := 243 * (v + 1)) (n := 2430 * (v + 1)) (by omega) (by omega) ?_
              exact ih27 (v + 1) (upd x2 4 l1_52) tf1_52 bf1_52 ht1_52 (by omega) (by rw [pk_us, hx2, upd_upd]) (pcT_p hu52.1 (by omega)) (by rw [pk_us, show (3 * P + (v + 1)) * 243 = (3 * P + v + 1) * 243 by omega]; exact hu52.2.1) hu52.2.2 (by omega)
        refine z_widen (k := 243 * 0) (n := 2430 * 0) (by omega) (by omega) ?_
        exact L27 ((3 - 0) + 1) 0 x tf bf ht (by omega) ((upd_self _ _).symm) hT (by rw [show (3 * P + 0) * 243 = P * 729 by omega]; exact hR) ht0 (Nat.lt_succ_self _)
    · skip
      exact z_vret gX hQX (tf, bf, x 4, ht) (⟨hT, pc_cut ham rfl hnn hP hR c6 (by rw [← hsm]; exact c14), ht0⟩) rfl (by simp only [upd_self]) (by first | decide | omega) (by first | decide | omega) dX0_pacesFrom_17

set_option maxHeartbeats 4000000 in
theorem met_X0_pace (l : Launch) (D : va_G) (B0 : Nat) (A : Nat → Prop) (o : Nat) (ad : Nat → Nat) (sa : Nat → Nat) (sb : Nat → Nat) (tr : Nat) (x : Nat → Int32) (da : Option Nat) (n : Nat) (ra : Nat → Nat) (md : Int32) (wn : Int32) (od : Nat → Int32) (c : Nat → Int32) (T : va_W) (k : Nat) (ht : sT) (tf : Nat → Int32) (bf : Nat → Int32) (r : Int32) (m : Int32) (q : Int32) (hS : sOK T da n k ra c) (ht0 : tOK ht) : Met l yX0_pace (ws_ yX0_pace cX0_pace 4 (some .int)) (zRm 18 729 7290) (va_Pc [.ref o, .int r, .int m, .int q] (zPre B0 D A [cOb o ad (sa 0) (sb 0) tr x, [(ad 4, .inl (D.1 100, 6, .inl tf))], [(ad 5, .inl (D.1 100, 6, .inl bf))], thP D sa ((da, n, ra), (md, wn, od), c), thP D sb ht, T])) (zQ (S := (Nat → Int32) × (Nat → Int32) × Int32 × sT) (fun u => (fun (tf1 : Nat → Int32) (bf1 : Nat → Int32) (l1 : Int32) (ht1 : sT) => tOK ht1) u.1 u.2.1 u.2.2.1 u.2.2.2) (fun u => (fun (tf1 : Nat → Int32) (bf1 : Nat → Int32) (l1 : Int32) (ht1 : sT) => some (.int (mPace n k c r m q))) u.1 u.2.1 u.2.2.1 u.2.2.2) (fun u => (fun (tf1 : Nat → Int32) (bf1 : Nat → Int32) (l1 : Int32) (ht1 : sT) => [cOb o ad (sa 0) (sb 0) tr (upd x 4 l1), [(ad 4, .inl (D.1 100, 6, .inl tf1))], [(ad 5, .inl (D.1 100, 6, .inl bf1))], thP D sa ((da, n, ra), (md, wn, od), c), thP D sb ht1, T]) u.1 u.2.1 u.2.2.1 u.2.2.2) D A) 729 7290 A := by
  refine z_entry (by decide +kernel) (Nat.le_of_ble_eq_true rfl) (fun pX eX sX mX argsX blX mtX cX QX hQX gX hAX hnm => ?_)
  refine z_eq (lv₂ := [(0, .ref o), (1, .int r), (2, .int m), (3, .int q)]) (st₂ := []) ?_ rfl rfl
  rcases hS with ⟨rfl, rfl, h16, h17⟩ | ⟨⟨d, rfl⟩, hG⟩
  · skip
    refine z_ws [cOb o ad (sa 0) (sb 0) tr x, [(ad 4, .inl (D.1 100, 6, .inl tf))], [(ad 5, .inl (D.1 100, 6, .inl bf))], [(sa 0, .inr (2, [.int (c 16), .int (c 1), .int (c 0), .int wn, .ref (sa 1), .ref (sa 2), .ref (sa 3), .ref (sa 4)]))], [(sa 1, .inr (16, [.int md, .ref (zEE D), .int (nI 0)]))], [(sa 2, .inl (D.1 100, 7, .inl (fun i_ => c (9 + i_))))], [(sa 3, .inl (D.1 100, 7, .inl (fun i_ => c (2 + i_))))], [(sa 4, .inl (D.1 100, 7, .inl od))], thP D sb ht, T] (List.Perm.refl _) ?_
    refine z_aload_n (pc := 0) gX 0 dX0_pace_0 rfl rfl ?_
    refine z_iload_n (pc := 1) gX 1 dX0_pace_1 rfl rfl ?_
    refine z_cOV (pc := 2) gX (zI_ok gX hAX) [.int r] [] [0, 3, 4] (met_X0_isRider l D B0 o ad sa sb tr x (c 16) (c 1) (c 0) wn md (zEE D) 0 r ) q947 q949 qs22 q47 q950 (zm 0 rfl) (ci := 0) rfl rfl hd_X0_isRider ⟨rfl, rfl⟩ ⟨(Nat.le_of_ble_eq_true rfl), (Nat.le_of_ble_eq_true rfl)⟩ rfl rfl rfl (Nat.le_of_ble_eq_true rfl) ⟨(Nat.le_of_ble_eq_true rfl), (Nat.le_of_ble_eq_true rfl)⟩ dX0_pace_2 ?_
    intro _ hu2
    refine z_eq (lv₂ := [(0, .ref o), (1, .int r), (2, .int m), (3, .int q)]) (st₂ := [.int (bI (mIn r 0 (nI 0 - 1)))]) ?_ rfl rfl
    refine z_top (bI (mIn r 0 (c 17 - 1))) (congrArg (fun z => bI (mIn r 0 (z - 1))) h17.symm) ?_
    refine z_if_eq (pc := 5) gX 25 dX0_pace_5 (by decide) (fun c5 => ?_) (fun c5 => ?_)
    · skip
      have k5 : (mIn r 0 (c 17 - 1)) = false := bI_eq0 c5
      refine z_ldc (pc := 25) gX q350 dX0_pace_25 ?_
      refine z_ws [cOb o ad (sa 0) (sb 0) tr x, [(ad 4, .inl (D.1 100, 6, .inl tf))], [(ad 5, .inl (D.1 100, 6, .inl bf))], thP D sa ((none, 0, ra), (md, wn, od), c), thP D sb ht, T] (List.Perm.refl _) ?_
      exact z_rim gX hQX (tf, bf, x 4, ht) ht0 (zsv (by simp [mPace, inF h17])) (by simp only [upd_self]) (by first | decide | omega) (by first | decide | omega) dX0_pace_27
    · skip
      have k5 : (mIn r 0 (c 17 - 1)) = true := bI_ne0 c5
      exact absurd k5 (by rw [inF h17]; decide)
  · skip
    have hK := hG.k
    have hn1 := hG.1
    have hn7 := hG.2.1
    have h17 := hG.2.2.1
    have h16 := hG.2.2.2.1
    have hk4 := hG.2.2.2.2.1
    have hk12 := hG.2.2.2.2.2.1
    have hln := hG.2.2.2.2.2.2.1
    have hR := hG.2.2.2.2.2.2.2
    refine z_ws [cOb o ad (sa 0) (sb 0) tr x, [(ad 4, .inl (D.1 100, 6, .inl tf))], [(ad 5, .inl (D.1 100, 6, .inl bf))], [(sa 0, .inr (2, [.int (c 16), .int (c 1), .int (c 0), .int wn, .ref (sa 1), .ref (sa 2), .ref (sa 3), .ref (sa 4)]))], [(sa 1, .inr (16, [.int md, .ref d, .int (nI n)]))], [(sa 2, .inl (D.1 100, 7, .inl (fun i_ => c (9 + i_))))], [(sa 3, .inl (D.1 100, 7, .inl (fun i_ => c (2 + i_))))], [(sa 4, .inl (D.1 100, 7, .inl od))], [(d, .inl (D.1 104, 10, .inr (.inr (.inr (.inr (rF ra n))))))], thP D sb ht, T] (List.Perm.refl _) ?_
    refine z_aload_n (pc := 0) gX 0 dX0_pace_0 rfl rfl ?_
    refine z_iload_n (pc := 1) gX 1 dX0_pace_1 rfl rfl ?_
    refine z_cOV (pc := 2) gX (zI_ok gX hAX) [.int r] [] [0, 3, 4] (met_X0_isRider l D B0 o ad sa sb tr x (c 16) (c 1) (c 0) wn md d n r ) q947 q949 qs22 q47 q950 (zm 0 rfl) (ci := 0) rfl rfl hd_X0_isRider ⟨rfl, rfl⟩ ⟨(Nat.le_of_ble_eq_true rfl), (Nat.le_of_ble_eq_true rfl)⟩ rfl rfl rfl (Nat.le_of_ble_eq_true rfl) ⟨(Nat.le_of_ble_eq_true rfl), (Nat.le_of_ble_eq_true rfl)⟩ dX0_pace_2 ?_
    intro _ hu2
    refine z_eq (lv₂ := [(0, .ref o), (1, .int r), (2, .int m), (3, .int q)]) (st₂ := [.int (bI (mIn r 0 (nI n - 1)))]) ?_ rfl rfl
    refine z_top (bI (mIn r 0 (c 17 - 1))) (congrArg (fun z => bI (mIn r 0 (z - 1))) h17.symm) ?_
    refine z_if_eq (pc := 5) gX 25 dX0_pace_5 (by decide) (fun c5 => ?_) (fun c5 => ?_)
    · skip
      have k5 : (mIn r 0 (c 17 - 1)) = false := bI_eq0 c5
      refine z_ldc (pc := 25) gX q350 dX0_pace_25 ?_
      refine z_ws [cOb o ad (sa 0) (sb 0) tr x, [(ad 4, .inl (D.1 100, 6, .inl tf))], [(ad 5, .inl (D.1 100, 6, .inl bf))], thP D sa ((some d, n, ra), (md, wn, od), c), thP D sb ht, T] (List.Perm.refl _) ?_
      exact z_rim gX hQX (tf, bf, x 4, ht) ht0 (zsv (by simp [mPace, k5])) (by simp only [upd_self]) (by first | decide | omega) (by first | decide | omega) dX0_pace_27
    · skip
      have k5 : (mIn r 0 (c 17 - 1)) = true := bI_ne0 c5
      obtain ⟨j, hj, rfl⟩ := riderN k5 h17 hn7
      refine z_iload_n (pc := 8) gX 2 dX0_pace_8 rfl rfl ?_
      refine z_i2l (pc := 9) gX dX0_pace_9 ?_
      refine z_lconst (pc := 10) gX 1 dX0_pace_10 rfl ?_
      refine z_ldc2_w (pc := 11) gX q1030 dX0_pace_11 ?_
      refine z_cOS (pc := 14) gX (zI_ok gX hAX) [.long m.toInt64, .long 1, .long 6] [] [] (met_X0_isIn l D B0 m.toInt64 1 6 ) q346 q347 q47 q348 hd_X0_isIn ⟨rfl, rfl⟩ ⟨(Nat.le_of_ble_eq_true rfl), (Nat.le_of_ble_eq_true rfl)⟩ rfl rfl rfl (Nat.le_of_ble_eq_true rfl) ⟨(Nat.le_of_ble_eq_true rfl), (Nat.le_of_ble_eq_true rfl)⟩ dX0_pace_14 ?_
      intro _ hu14
      refine z_eq (lv₂ := [(0, .ref o), (1, .int (nI j)), (2, .int m), (3, .int q)]) (st₂ := [.int (bI (lIn m.toInt64 1 6))]) ?_ rfl rfl
      refine z_top (bI (mIn m 1 6)) (congrArg bI (lIn_eq rfl (by decide) (by decide))) ?_
      refine z_if_eq (pc := 17) gX 25 dX0_pace_17 (by decide) (fun c17 => ?_) (fun c17 => ?_)
      · skip
        have k17 : (mIn m 1 6) = false := bI_eq0 c17
        refine z_ldc (pc := 25) gX q350 dX0_pace_25 ?_
        refine z_ws [cOb o ad (sa 0) (sb 0) tr x, [(ad 4, .inl (D.1 100, 6, .inl tf))], [(ad 5, .inl (D.1 100, 6, .inl bf))], thP D sa ((some d, n, ra), (md, wn, od), c), thP D sb ht, T] (List.Perm.refl _) ?_
        exact z_rim gX hQX (tf, bf, x 4, ht) ht0 (zsv (by simp [mPace, k5, k17])) (by simp only [upd_self]) (by first | decide | omega) (by first | decide | omega) dX0_pace_27
      · skip
        have k17 : (mIn m 1 6) = true := bI_ne0 c17
        obtain ⟨nn, hnn, rfl⟩ := mIn_nat1 k17 6 (by decide)
        have hnn1 : 1 ≤ nn := by simp only [mIn, Bool.and_eq_true, decide_eq_true_eq] at k17; exact (zn_le (a := 1) (by omega) (by omega)).mp k17.1
        refine z_iload_n (pc := 20) gX 3 dX0_pace_20 rfl rfl ?_
        refine z_iconst (pc := 21) gX (-1) dX0_pace_21 (by decide) ?_
        refine z_icmp_ge (pc := 22) gX 28 dX0_pace_22 (by decide) (fun c22 => ?_) (fun c22 => ?_)
        · skip
          refine z_aload_n (pc := 28) gX 0 dX0_pace_28 rfl rfl ?_
          refine z_ldc (pc := 29) gX q1003 dX0_pace_29 ?_
          refine z_put (pc := 31) gX hAX 0 rfl (ci := 0) (C := RX0) (T := TX0) (N := 14) rfl in_X0 tyX0 tyX0_ok nmX0 13 (by decide) q222 (fun _ h => h) rfl (v := .int (-1000000)) rfl rfl (Nat.le_of_ble_eq_true rfl) [cOb o ad (sa 0) (sb 0) tr (upd x 4 (-1000000)), [(ad 4, .inl (D.1 100, 6, .inl tf))], [(ad 5, .inl (D.1 100, 6, .inl bf))], [(sa 0, .inr (2, [.int (c 16), .int (c 1), .int (c 0), .int wn, .ref (sa 1), .ref (sa 2), .ref (sa 3), .ref (sa 4)]))], [(sa 1, .inr (16, [.int md, .ref d, .int (nI n)]))], [(sa 2, .inl (D.1 100, 7, .inl (fun i_ => c (9 + i_))))], [(sa 3, .inl (D.1 100, 7, .inl (fun i_ => c (2 + i_))))], [(sa 4, .inl (D.1 100, 7, .inl od))], [(d, .inl (D.1 104, 10, .inr (.inr (.inr (.inr (rF ra n))))))], thP D sb ht, T] rfl dX0_pace_31 ?_
          refine z_aload_n (pc := 34) gX 0 dX0_pace_34 rfl rfl ?_
          refine z_iconst (pc := 35) gX 0 dX0_pace_35 (by decide) ?_
          refine z_iconst (pc := 36) gX 0 dX0_pace_36 (by decide) ?_
          refine z_iload_n (pc := 37) gX 1 dX0_pace_37 rfl rfl ?_
          refine z_iload_n (pc := 38) gX 2 dX0_pace_38 rfl rfl ?_
          rcases (show nn = 1 ∨ nn = 2 ∨ nn = 3 ∨ nn = 4 ∨ nn = 5 ∨ nn = 6 by omega) with rfl | rfl | rfl | rfl | rfl | rfl
          · skip
            refine z_cMV (pc := 39) gX hAX [.int 0, .int 0, .int (nI j), .int (nI 1)] [] [0, 1, 2, 3, 4, 5, 6, 7, 8, 9, 10] [] (fun A1 => met_pacesR_1 l D B0 A1 o ad sa sb tr (upd x 4 (-1000000)) wn md d n c od ra T k ht tf bf j 1 0 0 0 hG ht0 hj (by omega) (by omega) (by decide) rfl (fun i hi => absurd hi (Nat.not_lt_zero _)) (by rw [pk_us]; exact pcR_0)) q1031 q1033 qs24 q47 q1034 (zm 0 rfl) (ci := 0) rfl rfl hd_X0_pacesFrom ⟨rfl, rfl⟩ ⟨(Nat.le_of_ble_eq_true rfl), (Nat.le_of_ble_eq_true rfl)⟩ rfl rfl (zpl 11 rfl (by decide +kernel)) rfl rfl (Nat.le_of_ble_eq_true rfl) ⟨(Nat.le_of_ble_eq_true rfl), (Nat.le_of_ble_eq_true rfl)⟩ dX0_pace_39 ?_
            intro u39 hu39
            obtain ⟨tf1_39, bf1_39, l1_39, ht1_39⟩ := u39
            have hu39 : pcT 0 0 tf1_39 ∧ pcR n k c j 1 ((0 + 1) * 3) l1_39 bf1_39 ∧ tOK ht1_39 := hu39
            refine z_re [0, 1, 2, 3, 4, 5, 6, 7, 8, 9, 10] [cOb o ad (sa 0) (sb 0) tr (upd (upd x 4 (-1000000)) 4 l1_39), [(ad 4, .inl (D.1 100, 6, .inl tf1_39))], [(ad 5, .inl (D.1 100, 6, .inl bf1_39))], [(sa 0, .inr (2, [.int (c 16), .int (c 1), .int (c 0), .int wn, .ref (sa 1), .ref (sa 2), .ref (sa 3), .ref (sa 4)]))], [(sa 1, .inr (16, [.int md, .ref d, .int (nI n)]))], [(sa 2, .inl (D.1 100, 7, .inl (fun i_ => c (9 + i_))))], [(sa 3, .inl (D.1 100, 7, .inl (fun i_ => c (2 + i_))))], [(sa 4, .inl (D.1 100, 7, .inl od))], [(d, .inl (D.1 104, 10, .inr (.inr (.inr (.inr (rF ra n))))))], thP D sb ht1_39, T] rfl (zpl 11 rfl (by decide +kernel)) ?_
            refine z_norm [cOb o ad (sa 0) (sb 0) tr (upd (upd x 4 (-1000000)) 4 l1_39), [(ad 4, .inl (D.1 100, 6, .inl tf1_39))], [(ad 5, .inl (D.1 100, 6, .inl bf1_39))], [(sa 0, .inr (2, [.int (c 16), .int (c 1), .int (c 0), .int wn, .ref (sa 1), .ref (sa 2), .ref (sa 3), .ref (sa 4)]))], [(sa 1, .inr (16, [.int md, .ref d, .int (nI n)]))], [(sa 2, .inl (D.1 100, 7, .inl (fun i_ => c (9 + i_))))], [(sa 3, .inl (D.1 100, 7, .inl (fun i_ => c (2 + i_))))], [(sa 4, .inl (D.1 100, 7, .inl od))], [(d, .inl (D.1 104, 10, .inr (.inr (.inr (.inr (rF ra n))))))], thP D sb ht1_39, T] 3 30 ?_ rfl rfl rfl
            refine z_eq (lv₂ := [(0, .ref o), (1, .int (nI j)), (2, .int (nI 1)), (3, .int q)]) (st₂ := []) ?_ rfl rfl
            have hR2 : pcR n k c j 1 (3 ^ 1) l1_39 bf1_39 := hu39.2.1
            refine z_aload_n (pc := 42) gX 0 dX0_pace_42 rfl rfl ?_
            refine z_get (pc := 43) gX (zI_ok gX hAX) (zm 0 rfl) (ci := 0) (C := RX0) (T := TX0) (N := 14) rfl in_X0 13 (by decide) q222 (fun _ h => h) (v := .int l1_39) rfl dX0_pace_43 ?_
            refine z_ldc (pc := 46) gX q1003 dX0_pace_46 ?_
            refine z_icmp_eq (pc := 48) gX 56 dX0_pace_48 (by decide) (fun c48 => ?_) (fun c48 => ?_)
            · skip
              refine z_ldc (pc := 56) gX q1003 dX0_pace_56 ?_
              refine z_ws [cOb o ad (sa 0) (sb 0) tr (upd (upd x 4 (-1000000)) 4 l1_39), [(ad 4, .inl (D.1 100, 6, .inl tf1_39))], [(ad 5, .inl (D.1 100, 6, .inl bf1_39))], thP D sa ((some d, n, ra), (md, wn, od), c), thP D sb ht1_39, T] (List.Perm.refl _) ?_
              exact z_rim gX hQX (tf1_39, bf1_39, l1_39, ht1_39) hu39.2.2 (zsv ((pace_none (by omega) (by omega) k5 k17 hR2 c22 (Or.inl c48)).symm)) (by simp only [upd_upd]) (by first | decide | omega) (by first | decide | omega) dX0_pace_58
            · skip
              refine z_iload_n (pc := 51) gX 3 dX0_pace_51 rfl rfl ?_
              refine z_iload_n (pc := 52) gX 2 dX0_pace_52 rfl rfl ?_
              refine z_icmp_lt (pc := 53) gX 59 dX0_pace_53 (by decide) (fun c53 => ?_) (fun c53 => ?_)
              · skip
                rcases q_case c22 c53 (by omega) with rfl | ⟨k0, hk0, rfl⟩
                · skip
                  refine z_iload_n (pc := 59) gX 3 dX0_pace_59 rfl rfl ?_
                  refine z_iconst (pc := 60) gX (-1) dX0_pace_60 (by decide) ?_
                  refine z_icmp_ne (pc := 61) gX 71 dX0_pace_61 (by decide) (fun c61 => ?_) (fun c61 => ?_)
                  · skip
                    exact absurd c61 (by decide)
                  · skip
                    refine z_aload_n (pc := 64) gX 0 dX0_pace_64 rfl rfl ?_
                    refine z_get (pc := 65) gX (zI_ok gX hAX) (zm 0 rfl) (ci := 0) (C := RX0) (T := TX0) (N := 14) rfl in_X0 13 (by decide) q222 (fun _ h => h) (v := .int l1_39) rfl dX0_pace_65 ?_
                    refine z_goto (pc := 68) gX 77 dX0_pace_68 (by decide) ?_
                    refine z_ws [cOb o ad (sa 0) (sb 0) tr (upd (upd x 4 (-1000000)) 4 l1_39), [(ad 4, .inl (D.1 100, 6, .inl tf1_39))], [(ad 5, .inl (D.1 100, 6, .inl bf1_39))], thP D sa ((some d, n, ra), (md, wn, od), c), thP D sb ht1_39, T] (List.Perm.refl _) ?_
                    exact z_rim gX hQX (tf1_39, bf1_39, l1_39, ht1_39) hu39.2.2 (zsv ((pace_least (by omega) (by omega) k5 k17 hR2 c48 c53).symm)) (by simp only [upd_upd]) (by first | decide | omega) (by first | decide | omega) dX0_pace_77
                · skip
                  refine z_iload_n (pc := 59) gX 3 dX0_pace_59 rfl rfl ?_
                  refine z_iconst (pc := 60) gX (-1) dX0_pace_60 (by decide) ?_
                  refine z_icmp_ne (pc := 61) gX 71 dX0_pace_61 (by decide) (fun c61 => ?_) (fun c61 => ?_)
                  · skip
                    refine z_aload_n (pc := 71) gX 0 dX0_pace_71 rfl rfl ?_
                    refine z_get (pc := 72) gX (zI_ok gX hAX) (zm 0 rfl) (ci := 0) (C := RX0) (T := TX0) (N := 14) rfl in_X0 12 (by decide) q221 (fun _ h => h) (v := .ref (ad 5)) rfl dX0_pace_72 ?_
                    refine z_iload_n (pc := 75) gX 3 dX0_pace_75 rfl rfl ?_
                    refine z_iald (pc := 76) gX (zI_ok gX hAX) (j := k0) (n := 6) (f := bf1_39) (zm 2 rfl) (by omega) (by decide) dX0_pace_76 ?_
                    refine z_ws [cOb o ad (sa 0) (sb 0) tr (upd (upd x 4 (-1000000)) 4 l1_39), [(ad 4, .inl (D.1 100, 6, .inl tf1_39))], [(ad 5, .inl (D.1 100, 6, .inl bf1_39))], thP D sa ((some d, n, ra), (md, wn, od), c), thP D sb ht1_39, T] (List.Perm.refl _) ?_
                    exact z_rim gX hQX (tf1_39, bf1_39, l1_39, ht1_39) hu39.2.2 (zsv ((pace_dig (by omega) (by omega) k5 k17 hR2 c48 hk0).symm)) (by simp only [upd_upd]) (by first | decide | omega) (by first | decide | omega) dX0_pace_77
                  · skip
                    exact absurd (show nI k0 < 0 by rw [c61]; decide) (nI_pos (by omega))
              · skip
                refine z_ldc (pc := 56) gX q1003 dX0_pace_56 ?_
                refine z_ws [cOb o ad (sa 0) (sb 0) tr (upd (upd x 4 (-1000000)) 4 l1_39), [(ad 4, .inl (D.1 100, 6, .inl tf1_39))], [(ad 5, .inl (D.1 100, 6, .inl bf1_39))], thP D sa ((some d, n, ra), (md, wn, od), c), thP D sb ht1_39, T] (List.Perm.refl _) ?_
                exact z_rim gX hQX (tf1_39, bf1_39, l1_39, ht1_39) hu39.2.2 (zsv ((pace_none (by omega) (by omega) k5 k17 hR2 c22 (Or.inr (Int32.not_lt.mp c53))).symm)) (by simp only [upd_upd]) (by first | decide | omega) (by first | decide | omega) dX0_pace_58
          · skip
            refine z_cMV (pc := 39) gX hAX [.int 0, .int 0, .int (nI j), .int (nI 2)] [] [0, 1, 2, 3, 4, 5, 6, 7, 8, 9, 10] [] (fun A1 => met_pacesR_2 l D B0 A1 o ad sa sb tr (upd x 4 (-1000000)) wn md d n c od ra T k ht tf bf j 2 0 0 0 hG ht0 hj (by omega) (by omega) (by decide) rfl (fun i hi => absurd hi (Nat.not_lt_zero _)) (by rw [pk_us]; exact pcR_0)) q1031 q1033 qs24 q47 q1034 (zm 0 rfl) (ci := 0) rfl rfl hd_X0_pacesFrom ⟨rfl, rfl⟩ ⟨(Nat.le_of_ble_eq_true rfl), (Nat.le_of_ble_eq_true rfl)⟩ rfl rfl (zpl 11 rfl (by decide +kernel)) rfl rfl (Nat.le_of_ble_eq_true rfl) ⟨(Nat.le_of_ble_eq_true rfl), (Nat.le_of_ble_eq_true rfl)⟩ dX0_pace_39 ?_
            intro u39 hu39
            obtain ⟨tf1_39, bf1_39, l1_39, ht1_39⟩ := u39
            have hu39 : pcT 0 0 tf1_39 ∧ pcR n k c j 2 ((0 + 1) * 9) l1_39 bf1_39 ∧ tOK ht1_39 := hu39
            refine z_re [0, 1, 2, 3, 4, 5, 6, 7, 8, 9, 10] [cOb o ad (sa 0) (sb 0) tr (upd (upd x 4 (-1000000)) 4 l1_39), [(ad 4, .inl (D.1 100, 6, .inl tf1_39))], [(ad 5, .inl (D.1 100, 6, .inl bf1_39))], [(sa 0, .inr (2, [.int (c 16), .int (c 1), .int (c 0), .int wn, .ref (sa 1), .ref (sa 2), .ref (sa 3), .ref (sa 4)]))], [(sa 1, .inr (16, [.int md, .ref d, .int (nI n)]))], [(sa 2, .inl (D.1 100, 7, .inl (fun i_ => c (9 + i_))))], [(sa 3, .inl (D.1 100, 7, .inl (fun i_ => c (2 + i_))))], [(sa 4, .inl (D.1 100, 7, .inl od))], [(d, .inl (D.1 104, 10, .inr (.inr (.inr (.inr (rF ra n))))))], thP D sb ht1_39, T] rfl (zpl 11 rfl (by decide +kernel)) ?_
            refine z_norm [cOb o ad (sa 0) (sb 0) tr (upd (upd x 4 (-1000000)) 4 l1_39), [(ad 4, .inl (D.1 100, 6, .inl tf1_39))], [(ad 5, .inl (D.1 100, 6, .inl bf1_39))], [(sa 0, .inr (2, [.int (c 16), .int (c 1), .int (c 0), .int wn, .ref (sa 1), .ref (sa 2), .ref (sa 3), .ref (sa 4)]))], [(sa 1, .inr (16, [.int md, .ref d, .int (nI n)]))], [(sa 2, .inl (D.1 100, 7, .inl (fun i_ => c (9 + i_))))], [(sa 3, .inl (D.1 100, 7, .inl (fun i_ => c (2 + i_))))], [(sa 4, .inl (D.1 100, 7, .inl od))], [(d, .inl (D.1 104, 10, .inr (.inr (.inr (.inr (rF ra n))))))], thP D sb ht1_39, T] 9 90 ?_ rfl rfl rfl
            refine z_eq (lv₂ := [(0, .ref o), (1, .int (nI j)), (2, .int (nI 2)), (3, .int q)]) (st₂ := []) ?_ rfl rfl
            have hR2 : pcR n k c j 2 (3 ^ 2) l1_39 bf1_39 := hu39.2.1
            refine z_aload_n (pc := 42) gX 0 dX0_pace_42 rfl rfl ?_
            refine z_get (pc := 43) gX (zI_ok gX hAX) (zm 0 rfl) (ci := 0) (C := RX0) (T := TX0) (N := 14) rfl in_X0 13 (by decide) q222 (fun _ h => h) (v := .int l1_39) rfl dX0_pace_43 ?_
            refine z_ldc (pc := 46) gX q1003 dX0_pace_46 ?_
            refine z_icmp_eq (pc := 48) gX 56 dX0_pace_48 (by decide) (fun c48 => ?_) (fun c48 => ?_)
            · skip
              refine z_ldc (pc := 56) gX q1003 dX0_pace_56 ?_
              refine z_ws [cOb o ad (sa 0) (sb 0) tr (upd (upd x 4 (-1000000)) 4 l1_39), [(ad 4, .inl (D.1 100, 6, .inl tf1_39))], [(ad 5, .inl (D.1 100, 6, .inl bf1_39))], thP D sa ((some d, n, ra), (md, wn, od), c), thP D sb ht1_39, T] (List.Perm.refl _) ?_
              exact z_rim gX hQX (tf1_39, bf1_39, l1_39, ht1_39) hu39.2.2 (zsv ((pace_none (by omega) (by omega) k5 k17 hR2 c22 (Or.inl c48)).symm)) (by simp only [upd_upd]) (by first | decide | omega) (by first | decide | omega) dX0_pace_58
            · skip
              refine z_iload_n (pc := 51) gX 3 dX0_pace_51 rfl rfl ?_
              refine z_iload_n (pc := 52) gX 2 dX0_pace_52 rfl rfl ?_
              refine z_icmp_lt (pc := 53) gX 59 dX0_pace_53 (by decide) (fun c53 => ?_) (fun c53 => ?_)
              · skip
                rcases q_case c22 c53 (by omega) with rfl | ⟨k0, hk0, rfl⟩
                · skip
                  refine z_iload_n (pc := 59) gX 3 dX0_pace_59 rfl rfl ?_
                  refine z_iconst (pc := 60) gX (-1) dX0_pace_60 (by decide) ?_
                  refine z_icmp_ne (pc := 61) gX 71 dX0_pace_61 (by decide) (fun c61 => ?_) (fun c61 => ?_)
                  · skip
                    exact absurd c61 (by decide)
                  · skip
                    refine z_aload_n (pc := 64) gX 0 dX0_pace_64 rfl rfl ?_
                    refine z_get (pc := 65) gX (zI_ok gX hAX) (zm 0 rfl) (ci := 0) (C := RX0) (T := TX0) (N := 14) rfl in_X0 13 (by decide) q222 (fun _ h => h) (v := .int l1_39) rfl dX0_pace_65 ?_
                    refine z_goto (pc := 68) gX 77 dX0_pace_68 (by decide) ?_
                    refine z_ws [cOb o ad (sa 0) (sb 0) tr (upd (upd x 4 (-1000000)) 4 l1_39), [(ad 4, .inl (D.1 100, 6, .inl tf1_39))], [(ad 5, .inl (D.1 100, 6, .inl bf1_39))], thP D sa ((some d, n, ra), (md, wn, od), c), thP D sb ht1_39, T] (List.Perm.refl _) ?_
                    exact z_rim gX hQX (tf1_39, bf1_39, l1_39, ht1_39) hu39.2.2 (zsv ((pace_least (by omega) (by omega) k5 k17 hR2 c48 c53).symm)) (by simp only [upd_upd]) (by first | decide | omega) (by first | decide | omega) dX0_pace_77
                · skip
                  refine z_iload_n (pc := 59) gX 3 dX0_pace_59 rfl rfl ?_
                  refine z_iconst (pc := 60) gX (-1) dX0_pace_60 (by decide) ?_
                  refine z_icmp_ne (pc := 61) gX 71 dX0_pace_61 (by decide) (fun c61 => ?_) (fun c61 => ?_)
                  · skip
                    refine z_aload_n (pc := 71) gX 0 dX0_pace_71 rfl rfl ?_
                    refine z_get (pc := 72) gX (zI_ok gX hAX) (zm 0 rfl) (ci := 0) (C := RX0) (T := TX0) (N := 14) rfl in_X0 12 (by decide) q221 (fun _ h => h) (v := .ref (ad 5)) rfl dX0_pace_72 ?_
                    refine z_iload_n (pc := 75) gX 3 dX0_pace_75 rfl rfl ?_
                    refine z_iald (pc := 76) gX (zI_ok gX hAX) (j := k0) (n := 6) (f := bf1_39) (zm 2 rfl) (by omega) (by decide) dX0_pace_76 ?_
                    refine z_ws [cOb o ad (sa 0) (sb 0) tr (upd (upd x 4 (-1000000)) 4 l1_39), [(ad 4, .inl (D.1 100, 6, .inl tf1_39))], [(ad 5, .inl (D.1 100, 6, .inl bf1_39))], thP D sa ((some d, n, ra), (md, wn, od), c), thP D sb ht1_39, T] (List.Perm.refl _) ?_
                    exact z_rim gX hQX (tf1_39, bf1_39, l1_39, ht1_39) hu39.2.2 (zsv ((pace_dig (by omega) (by omega) k5 k17 hR2 c48 hk0).symm)) (by simp only [upd_upd]) (by first | decide | omega) (by first | decide | omega) dX0_pace_77
                  · skip
                    exact absurd (show nI k0 < 0 by rw [c61]; decide) (nI_pos (by omega))
              · skip
                refine z_ldc (pc := 56) gX q1003 dX0_pace_56 ?_
                refine z_ws [cOb o ad (sa 0) (sb 0) tr (upd (upd x 4 (-1000000)) 4 l1_39), [(ad 4, .inl (D.1 100, 6, .inl tf1_39))], [(ad 5, .inl (D.1 100, 6, .inl bf1_39))], thP D sa ((some d, n, ra), (md, wn, od), c), thP D sb ht1_39, T] (List.Perm.refl _) ?_
                exact z_rim gX hQX (tf1_39, bf1_39, l1_39, ht1_39) hu39.2.2 (zsv ((pace_none (by omega) (by omega) k5 k17 hR2 c22 (Or.inr (Int32.not_lt.mp c53))).symm)) (by simp only [upd_upd]) (by first | decide | omega) (by first | decide | omega) dX0_pace_58
          · skip
            refine z_cMV (pc := 39) gX hAX [.int 0, .int 0, .int (nI j), .int (nI 3)] [] [0, 1, 2, 3, 4, 5, 6, 7, 8, 9, 10] [] (fun A1 => met_pacesR_3 l D B0 A1 o ad sa sb tr (upd x 4 (-1000000)) wn md d n c od ra T k ht tf bf j 3 0 0 0 hG ht0 hj (by omega) (by omega) (by decide) rfl (fun i hi => absurd hi (Nat.not_lt_zero _)) (by rw [pk_us]; exact pcR_0)) q1031 q1033 qs24 q47 q1034 (zm 0 rfl) (ci := 0) rfl rfl hd_X0_pacesFrom ⟨rfl, rfl⟩ ⟨(Nat.le_of_ble_eq_true rfl), (Nat.le_of_ble_eq_true rfl)⟩ rfl rfl (zpl 11 rfl (by decide +kernel)) rfl rfl (Nat.le_of_ble_eq_true rfl) ⟨(Nat.le_of_ble_eq_true rfl), (Nat.le_of_ble_eq_true rfl)⟩ dX0_pace_39 ?_
            intro u39 hu39
            obtain ⟨tf1_39, bf1_39, l1_39, ht1_39⟩ := u39
            have hu39 : pcT 0 0 tf1_39 ∧ pcR n k c j 3 ((0 + 1) * 27) l1_39 bf1_39 ∧ tOK ht1_39 := hu39
            refine z_re [0, 1, 2, 3, 4, 5, 6, 7, 8, 9, 10] [cOb o ad (sa 0) (sb 0) tr (upd (upd x 4 (-1000000)) 4 l1_39), [(ad 4, .inl (D.1 100, 6, .inl tf1_39))], [(ad 5, .inl (D.1 100, 6, .inl bf1_39))], [(sa 0, .inr (2, [.int (c 16), .int (c 1), .int (c 0), .int wn, .ref (sa 1), .ref (sa 2), .ref (sa 3), .ref (sa 4)]))], [(sa 1, .inr (16, [.int md, .ref d, .int (nI n)]))], [(sa 2, .inl (D.1 100, 7, .inl (fun i_ => c (9 + i_))))], [(sa 3, .inl (D.1 100, 7, .inl (fun i_ => c (2 + i_))))], [(sa 4, .inl (D.1 100, 7, .inl od))], [(d, .inl (D.1 104, 10, .inr (.inr (.inr (.inr (rF ra n))))))], thP D sb ht1_39, T] rfl (zpl 11 rfl (by decide +kernel)) ?_
            refine z_norm [cOb o ad (sa 0) (sb 0) tr (upd (upd x 4 (-1000000)) 4 l1_39), [(ad 4, .inl (D.1 100, 6, .inl tf1_39))], [(ad 5, .inl (D.1 100, 6, .inl bf1_39))], [(sa 0, .inr (2, [.int (c 16), .int (c 1), .int (c 0), .int wn, .ref (sa 1), .ref (sa 2), .ref (sa 3), .ref (sa 4)]))], [(sa 1, .inr (16, [.int md, .ref d, .int (nI n)]))], [(sa 2, .inl (D.1 100, 7, .inl (fun i_ => c (9 + i_))))], [(sa 3, .inl (D.1 100, 7, .inl (fun i_ => c (2 + i_))))], [(sa 4, .inl (D.1 100, 7, .inl od))], [(d, .inl (D.1 104, 10, .inr (.inr (.inr (.inr (rF ra n))))))], thP D sb ht1_39, T] 27 270 ?_ rfl rfl rfl
            refine z_eq (lv₂ := [(0, .ref o), (1, .int (nI j)), (2, .int (nI 3)), (3, .int q)]) (st₂ := []) ?_ rfl rfl
            have hR2 : pcR n k c j 3 (3 ^ 3) l1_39 bf1_39 := hu39.2.1
            refine z_aload_n (pc := 42) gX 0 dX0_pace_42 rfl rfl ?_
            refine z_get (pc := 43) gX (zI_ok gX hAX) (zm 0 rfl) (ci := 0) (C := RX0) (T := TX0) (N := 14) rfl in_X0 13 (by decide) q222 (fun _ h => h) (v := .int l1_39) rfl dX0_pace_43 ?_
            refine z_ldc (pc := 46) gX q1003 dX0_pace_46 ?_
            refine z_icmp_eq (pc := 48) gX 56 dX0_pace_48 (by decide) (fun c48 => ?_) (fun c48 => ?_)
            · skip
              refine z_ldc (pc := 56) gX q1003 dX0_pace_56 ?_
              refine z_ws [cOb o ad (sa 0) (sb 0) tr (upd (upd x 4 (-1000000)) 4 l1_39), [(ad 4, .inl (D.1 100, 6, .inl tf1_39))], [(ad 5, .inl (D.1 100, 6, .inl bf1_39))], thP D sa ((some d, n, ra), (md, wn, od), c), thP D sb ht1_39, T] (List.Perm.refl _) ?_
              exact z_rim gX hQX (tf1_39, bf1_39, l1_39, ht1_39) hu39.2.2 (zsv ((pace_none (by omega) (by omega) k5 k17 hR2 c22 (Or.inl c48)).symm)) (by simp only [upd_upd]) (by first | decide | omega) (by first | decide | omega) dX0_pace_58
            · skip
              refine z_iload_n (pc := 51) gX 3 dX0_pace_51 rfl rfl ?_
              refine z_iload_n (pc := 52) gX 2 dX0_pace_52 rfl rfl ?_
              refine z_icmp_lt (pc := 53) gX 59 dX0_pace_53 (by decide) (fun c53 => ?_) (fun c53 => ?_)
              · skip
                rcases q_case c22 c53 (by omega) with rfl | ⟨k0, hk0, rfl⟩
                · skip
                  refine z_iload_n (pc := 59) gX 3 dX0_pace_59 rfl rfl ?_
                  refine z_iconst (pc := 60) gX (-1) dX0_pace_60 (by decide) ?_
                  refine z_icmp_ne (pc := 61) gX 71 dX0_pace_61 (by decide) (fun c61 => ?_) (fun c61 => ?_)
                  · skip
                    exact absurd c61 (by decide)
                  · skip
                    refine z_aload_n (pc := 64) gX 0 dX0_pace_64 rfl rfl ?_
                    refine z_get (pc := 65) gX (zI_ok gX hAX) (zm 0 rfl) (ci := 0) (C := RX0) (T := TX0) (N := 14) rfl in_X0 13 (by decide) q222 (fun _ h => h) (v := .int l1_39) rfl dX0_pace_65 ?_
                    refine z_goto (pc := 68) gX 77 dX0_pace_68 (by decide) ?_
                    refine z_ws [cOb o ad (sa 0) (sb 0) tr (upd (upd x 4 (-1000000)) 4 l1_39), [(ad 4, .inl (D.1 100, 6, .inl tf1_39))], [(ad 5, .inl (D.1 100, 6, .inl bf1_39))], thP D sa ((some d, n, ra), (md, wn, od), c), thP D sb ht1_39, T] (List.Perm.refl _) ?_
                    exact z_rim gX hQX (tf1_39, bf1_39, l1_39, ht1_39) hu39.2.2 (zsv ((pace_least (by omega) (by omega) k5 k17 hR2 c48 c53).symm)) (by simp only [upd_upd]) (by first | decide | omega) (by first | decide | omega) dX0_pace_77
                · skip
                  refine z_iload_n (pc := 59) gX 3 dX0_pace_59 rfl rfl ?_
                  refine z_iconst (pc := 60) gX (-1) dX0_pace_60 (by decide) ?_
                  refine z_icmp_ne (pc := 61) gX 71 dX0_pace_61 (by decide) (fun c61 => ?_) (fun c61 => ?_)
                  · skip
                    refine z_aload_n (pc := 71) gX 0 dX0_pace_71 rfl rfl ?_
                    refine z_get (pc := 72) gX (zI_ok gX hAX) (zm 0 rfl) (ci := 0) (C := RX0) (T := TX0) (N := 14) rfl in_X0 12 (by decide) q221 (fun _ h => h) (v := .ref (ad 5)) rfl dX0_pace_72 ?_
                    refine z_iload_n (pc := 75) gX 3 dX0_pace_75 rfl rfl ?_
                    refine z_iald (pc := 76) gX (zI_ok gX hAX) (j := k0) (n := 6) (f := bf1_39) (zm 2 rfl) (by omega) (by decide) dX0_pace_76 ?_
                    refine z_ws [cOb o ad (sa 0) (sb 0) tr (upd (upd x 4 (-1000000)) 4 l1_39), [(ad 4, .inl (D.1 100, 6, .inl tf1_39))], [(ad 5, .inl (D.1 100, 6, .inl bf1_39))], thP D sa ((some d, n, ra), (md, wn, od), c), thP D sb ht1_39, T] (List.Perm.refl _) ?_
                    exact z_rim gX hQX (tf1_39, bf1_39, l1_39, ht1_39) hu39.2.2 (zsv ((pace_dig (by omega) (by omega) k5 k17 hR2 c48 hk0).symm)) (by simp only [upd_upd]) (by first | decide | omega) (by first | decide | omega) dX0_pace_77
                  · skip
                    exact absurd (show nI k0 < 0 by rw [c61]; decide) (nI_pos (by omega))
              · skip
                refine z_ldc (pc := 56) gX q1003 dX0_pace_56 ?_
                refine z_ws [cOb o ad (sa 0) (sb 0) tr (upd (upd x 4 (-1000000)) 4 l1_39), [(ad 4, .inl (D.1 100, 6, .inl tf1_39))], [(ad 5, .inl (D.1 100, 6, .inl bf1_39))], thP D sa ((some d, n, ra), (md, wn, od), c), thP D sb ht1_39, T] (List.Perm.refl _) ?_
                exact z_rim gX hQX (tf1_39, bf1_39, l1_39, ht1_39) hu39.2.2 (zsv ((pace_none (by omega) (by omega) k5 k17 hR2 c22 (Or.inr (Int32.not_lt.mp c53))).symm)) (by simp only [upd_upd]) (by first | decide | omega) (by first | decide | omega) dX0_pace_58
          · skip
            refine z_cMV (pc := 39) gX hAX [.int 0, .int 0, .int (nI j), .int (nI 4)] [] [0, 1, 2, 3, 4, 5, 6, 7, 8, 9, 10] [] (fun A1 => met_pacesR_4 l D B0 A1 o ad sa sb tr (upd x 4 (-1000000)) wn md d n c od ra T k ht tf bf j 4 0 0 0 hG ht0 hj (by omega) (by omega) (by decide) rfl (fun i hi => absurd hi (Nat.not_lt_zero _)) (by rw [pk_us]; exact pcR_0)) q1031 q1033 qs24 q47 q1034 (zm 0 rfl) (ci := 0) rfl rfl hd_X0_pacesFrom ⟨rfl, rfl⟩ ⟨(Nat.le_of_ble_eq_true rfl), (Nat.le_of_ble_eq_true rfl)⟩ rfl rfl (zpl 11 rfl (by decide +kernel)) rfl rfl (Nat.le_of_ble_eq_true rfl) ⟨(Nat.le_of_ble_eq_true rfl), (Nat.le_of_ble_eq_true rfl)⟩ dX0_pace_39 ?_
            intro u39 hu39
            obtain ⟨tf1_39, bf1_39, l1_39, ht1_39⟩ := u39
            have hu39 : pcT 0 0 tf1_39 ∧ pcR n k c j 4 ((0 + 1) * 81) l1_39 bf1_39 ∧ tOK ht1_39 := hu39
            refine z_re [0, 1, 2, 3, 4, 5, 6, 7, 8, 9, 10] [cOb o ad (sa 0) (sb 0) tr (upd (upd x 4 (-1000000)) 4 l1_39), [(ad 4, .inl (D.1 100, 6, .inl tf1_39))], [(ad 5, .inl (D.1 100, 6, .inl bf1_39))], [(sa 0, .inr (2, [.int (c 16), .int (c 1), .int (c 0), .int wn, .ref (sa 1), .ref (sa 2), .ref (sa 3), .ref (sa 4)]))], [(sa 1, .inr (16, [.int md, .ref d, .int (nI n)]))], [(sa 2, .inl (D.1 100, 7, .inl (fun i_ => c (9 + i_))))], [(sa 3, .inl (D.1 100, 7, .inl (fun i_ => c (2 + i_))))], [(sa 4, .inl (D.1 100, 7, .inl od))], [(d, .inl (D.1 104, 10, .inr (.inr (.inr (.inr (rF ra n))))))], thP D sb ht1_39, T] rfl (zpl 11 rfl (by decide +kernel)) ?_
            refine z_norm [cOb o ad (sa 0) (sb 0) tr (upd (upd x 4 (-1000000)) 4 l1_39), [(ad 4, .inl (D.1 100, 6, .inl tf1_39))], [(ad 5, .inl (D.1 100, 6, .inl bf1_39))], [(sa 0, .inr (2, [.int (c 16), .int (c 1), .int (c 0), .int wn, .ref (sa 1), .ref (sa 2), .ref (sa 3), .ref (sa 4)]))], [(sa 1, .inr (16, [.int md, .ref d, .int (nI n)]))], [(sa 2, .inl (D.1 100, 7, .inl (fun i_ => c (9 + i_))))], [(sa 3, .inl (D.1 100, 7, .inl (fun i_ => c (2 + i_))))], [(sa 4, .inl (D.1 100, 7, .inl od))], [(d, .inl (D.1 104, 10, .inr (.inr (.inr (.inr (rF ra n))))))], thP D sb ht1_39, T] 81 810 ?_ rfl rfl rfl
            refine z_eq (lv₂ := [(0, .ref o), (1, .int (nI j)), (2, .int (nI 4)), (3, .int q)]) (st₂ := []) ?_ rfl rfl
            have hR2 : pcR n k c j 4 (3 ^ 4) l1_39 bf1_39 := hu39.2.1
            refine z_aload_n (pc := 42) gX 0 dX0_pace_42 rfl rfl ?_
            refine z_get (pc := 43) gX (zI_ok gX hAX) (zm 0 rfl) (ci := 0) (C := RX0) (T := TX0) (N := 14) rfl in_X0 13 (by decide) q222 (fun _ h => h) (v := .int l1_39) rfl dX0_pace_43 ?_
            refine z_ldc (pc := 46) gX q1003 dX0_pace_46 ?_
            refine z_icmp_eq (pc := 48) gX 56 dX0_pace_48 (by decide) (fun c48 => ?_) (fun c48 => ?_)
            · skip
              refine z_ldc (pc := 56) gX q1003 dX0_pace_56 ?_
              refine z_ws [cOb o ad (sa 0) (sb 0) tr (upd (upd x 4 (-1000000)) 4 l1_39), [(ad 4, .inl (D.1 100, 6, .inl tf1_39))], [(ad 5, .inl (D.1 100, 6, .inl bf1_39))], thP D sa ((some d, n, ra), (md, wn, od), c), thP D sb ht1_39, T] (List.Perm.refl _) ?_
              exact z_rim gX hQX (tf1_39, bf1_39, l1_39, ht1_39) hu39.2.2 (zsv ((pace_none (by omega) (by omega) k5 k17 hR2 c22 (Or.inl c48)).symm)) (by simp only [upd_upd]) (by first | decide | omega) (by first | decide | omega) dX0_pace_58
            · skip
              refine z_iload_n (pc := 51) gX 3 dX0_pace_51 rfl rfl ?_
              refine z_iload_n (pc := 52) gX 2 dX0_pace_52 rfl rfl ?_
              refine z_icmp_lt (pc := 53) gX 59 dX0_pace_53 (by decide) (fun c53 => ?_) (fun c53 => ?_)
              · skip
                rcases q_case c22 c53 (by omega) with rfl | ⟨k0, hk0, rfl⟩
                · skip
                  refine z_iload_n (pc := 59) gX 3 dX0_pace_59 rfl rfl ?_
                  refine z_iconst (pc := 60) gX (-1) dX0_pace_60 (by decide) ?_
                  refine z_icmp_ne (pc := 61) gX 71 dX0_pace_61 (by decide) (fun c61 => ?_) (fun c61 => ?_)
                  · skip
                    exact absurd c61 (by decide)
                  · skip
                    refine z_aload_n (pc := 64) gX 0 dX0_pace_64 rfl rfl ?_
                    refine z_get (pc := 65) gX (zI_ok gX hAX) (zm 0 rfl) (ci := 0) (C := RX0) (T := TX0) (N := 14) rfl in_X0 13 (by decide) q222 (fun _ h => h) (v := .int l1_39) rfl dX0_pace_65 ?_
                    refine z_goto (pc := 68) gX 77 dX0_pace_68 (by decide) ?_
                    refine z_ws [cOb o ad (sa 0) (sb 0) tr (upd (upd x 4 (-1000000)) 4 l1_39), [(ad 4, .inl (D.1 100, 6, .inl tf1_39))], [(ad 5, .inl (D.1 100, 6, .inl bf1_39))], thP D sa ((some d, n, ra), (md, wn, od), c), thP D sb ht1_39, T] (List.Perm.refl _) ?_
                    exact z_rim gX hQX (tf1_39, bf1_39, l1_39, ht1_39) hu39.2.2 (zsv ((pace_least (by omega) (by omega) k5 k17 hR2 c48 c53).symm)) (by simp only [upd_upd]) (by first | decide | omega) (by first | decide | omega) dX0_pace_77
                · skip
                  refine z_iload_n (pc := 59) gX 3 dX0_pace_59 rfl rfl ?_
                  refine z_iconst (pc := 60) gX (-1) dX0_pace_60 (by decide) ?_
                  refine z_icmp_ne (pc := 61) gX 71 dX0_pace_61 (by decide) (fun c61 => ?_) (fun c61 => ?_)
                  · skip
                    refine z_aload_n (pc := 71) gX 0 dX0_pace_71 rfl rfl ?_
                    refine z_get (pc := 72) gX (zI_ok gX hAX) (zm 0 rfl) (ci := 0) (C := RX0) (T := TX0) (N := 14) rfl in_X0 12 (by decide) q221 (fun _ h => h) (v := .ref (ad 5)) rfl dX0_pace_72 ?_
                    refine z_iload_n (pc := 75) gX 3 dX0_pace_75 rfl rfl ?_
                    refine z_iald (pc := 76) gX (zI_ok gX hAX) (j := k0) (n := 6) (f := bf1_39) (zm 2 rfl) (by omega) (by decide) dX0_pace_76 ?_
                    refine z_ws [cOb o ad (sa 0) (sb 0) tr (upd (upd x 4 (-1000000)) 4 l1_39), [(ad 4, .inl (D.1 100, 6, .inl tf1_39))], [(ad 5, .inl (D.1 100, 6, .inl bf1_39))], thP D sa ((some d, n, ra), (md, wn, od), c), thP D sb ht1_39, T] (List.Perm.refl _) ?_
                    exact z_rim gX hQX (tf1_39, bf1_39, l1_39, ht1_39) hu39.2.2 (zsv ((pace_dig (by omega) (by omega) k5 k17 hR2 c48 hk0).symm)) (by simp only [upd_upd]) (by first | decide | omega) (by first | decide | omega) dX0_pace_77
                  · skip
                    exact absurd (show nI k0 < 0 by rw [c61]; decide) (nI_pos (by omega))
              · skip
                refine z_ldc (pc := 56) gX q1003 dX0_pace_56 ?_
                refine z_ws [cOb o ad (sa 0) (sb 0) tr (upd (upd x 4 (-1000000)) 4 l1_39), [(ad 4, .inl (D.1 100, 6, .inl tf1_39))], [(ad 5, .inl (D.1 100, 6, .inl bf1_39))], thP D sa ((some d, n, ra), (md, wn, od), c), thP D sb ht1_39, T] (List.Perm.refl _) ?_
                exact z_rim gX hQX (tf1_39, bf1_39, l1_39, ht1_39) hu39.2.2 (zsv ((pace_none (by omega) (by omega) k5 k17 hR2 c22 (Or.inr (Int32.not_lt.mp c53))).symm)) (by simp only [upd_upd]) (by first | decide | omega) (by first | decide | omega) dX0_pace_58
          · skip
            refine z_cMV (pc := 39) gX hAX [.int 0, .int 0, .int (nI j), .int (nI 5)] [] [0, 1, 2, 3, 4, 5, 6, 7, 8, 9, 10] [] (fun A1 => met_pacesR_5 l D B0 A1 o ad sa sb tr (upd x 4 (-1000000)) wn md d n c od ra T k ht tf bf j 5 0 0 0 hG ht0 hj (by omega) (by omega) (by decide) rfl (fun i hi => absurd hi (Nat.not_lt_zero _)) (by rw [pk_us]; exact pcR_0)) q1031 q1033 qs24 q47 q1034 (zm 0 rfl) (ci := 0) rfl rfl hd_X0_pacesFrom ⟨rfl, rfl⟩ ⟨(Nat.le_of_ble_eq_true rfl), (Nat.le_of_ble_eq_true rfl)⟩ rfl rfl (zpl 11 rfl (by decide +kernel)) rfl rfl (Nat.le_of_ble_eq_true rfl) ⟨(Nat.le_of_ble_eq_true rfl), (Nat.le_of_ble_eq_true rfl)⟩ dX0_pace_39 ?_
            intro u39 hu39
            obtain ⟨tf1_39, bf1_39, l1_39, ht1_39⟩ := u39
            have hu39 : pcT 0 0 tf1_39 ∧ pcR n k c j 5 ((0 + 1) * 243) l1_39 bf1_39 ∧ tOK ht1_39 := hu39
            refine z_re [0, 1, 2, 3, 4, 5, 6, 7, 8, 9, 10] [cOb o ad (sa 0) (sb 0) tr (upd (upd x 4 (-1000000)) 4 l1_39), [(ad 4, .inl (D.1 100, 6, .inl tf1_39))], [(ad 5, .inl (D.1 100, 6, .inl bf1_39))], [(sa 0, .inr (2, [.int (c 16), .int (c 1), .int (c 0), .int wn, .ref (sa 1), .ref (sa 2), .ref (sa 3), .ref (sa 4)]))], [(sa 1, .inr (16, [.int md, .ref d, .int (nI n)]))], [(sa 2, .inl (D.1 100, 7, .inl (fun i_ => c (9 + i_))))], [(sa 3, .inl (D.1 100, 7, .inl (fun i_ => c (2 + i_))))], [(sa 4, .inl (D.1 100, 7, .inl od))], [(d, .inl (D.1 104, 10, .inr (.inr (.inr (.inr (rF ra n))))))], thP D sb ht1_39, T] rfl (zpl 11 rfl (by decide +kernel)) ?_
            refine z_norm [cOb o ad (sa 0) (sb 0) tr (upd (upd x 4 (-1000000)) 4 l1_39), [(ad 4, .inl (D.1 100, 6, .inl tf1_39))], [(ad 5, .inl (D.1 100, 6, .inl bf1_39))], [(sa 0, .inr (2, [.int (c 16), .int (c 1), .int (c 0), .int wn, .ref (sa 1), .ref (sa 2), .ref (sa 3), .ref (sa 4)]))], [(sa 1, .inr (16, [.int md, .ref d, .int (nI n)]))], [(sa 2, .inl (D.1 100, 7, .inl (fun i_ => c (9 + i_))))], [(sa 3, .inl (D.1 100, 7, .inl (fun i_ => c (2 + i_))))], [(sa 4, .inl (D.1 100, 7, .inl od))], [(d, .inl (D.1 104, 10, .inr (.inr (.inr (.inr (rF ra n))))))], thP D sb ht1_39, T] 243 2430 ?_ rfl rfl rfl
            refine z_eq (lv₂ := [(0, .ref o), (1, .int (nI j)), (2, .int (nI 5)), (3, .int q)]) (st₂ := []) ?_ rfl rfl
            have hR2 : pcR n k c j 5 (3 ^ 5) l1_39 bf1_39 := hu39.2.1
            refine z_aload_n (pc := 42) gX 0 dX0_pace_42 rfl rfl ?_
            refine z_get (pc := 43) gX (zI_ok gX hAX) (zm 0 rfl) (ci := 0) (C := RX0) (T := TX0) (N := 14) rfl in_X0 13 (by decide) q222 (fun _ h => h) (v := .int l1_39) rfl dX0_pace_43 ?_
            refine z_ldc (pc := 46) gX q1003 dX0_pace_46 ?_
            refine z_icmp_eq (pc := 48) gX 56 dX0_pace_48 (by decide) (fun c48 => ?_) (fun c48 => ?_)
            · skip
              refine z_ldc (pc := 56) gX q1003 dX0_pace_56 ?_
              refine z_ws [cOb o ad (sa 0) (sb 0) tr (upd (upd x 4 (-1000000)) 4 l1_39), [(ad 4, .inl (D.1 100, 6, .inl tf1_39))], [(ad 5, .inl (D.1 100, 6, .inl bf1_39))], thP D sa ((some d, n, ra), (md, wn, od), c), thP D sb ht1_39, T] (List.Perm.refl _) ?_
              exact z_rim gX hQX (tf1_39, bf1_39, l1_39, ht1_39) hu39.2.2 (zsv ((pace_none (by omega) (by omega) k5 k17 hR2 c22 (Or.inl c48)).symm)) (by simp only [upd_upd]) (by first | decide | omega) (by first | decide | omega) dX0_pace_58
            · skip
              refine z_iload_n (pc := 51) gX 3 dX0_pace_51 rfl rfl ?_
              refine z_iload_n (pc := 52) gX 2 dX0_pace_52 rfl rfl ?_
              refine z_icmp_lt (pc := 53) gX 59 dX0_pace_53 (by decide) (fun c53 => ?_) (fun c53 => ?_)
              · skip
                rcases q_case c22 c53 (by omega) with rfl | ⟨k0, hk0, rfl⟩
                · skip
                  refine z_iload_n (pc := 59) gX 3 dX0_pace_59 rfl rfl ?_
                  refine z_iconst (pc := 60) gX (-1) dX0_pace_60 (by decide) ?_
                  refine z_icmp_ne (pc := 61) gX 71 dX0_pace_61 (by decide) (fun c61 => ?_) (fun c61 => ?_)
                  · skip
                    exact absurd c61 (by decide)
                  · skip
                    refine z_aload_n (pc := 64) gX 0 dX0_pace_64 rfl rfl ?_
                    refine z_get (pc := 65) gX (zI_ok gX hAX) (zm 0 rfl) (ci := 0) (C := RX0) (T := TX0) (N := 14) rfl in_X0 13 (by decide) q222 (fun _ h => h) (v := .int l1_39) rfl dX0_pace_65 ?_
                    refine z_goto (pc := 68) gX 77 dX0_pace_68 (by decide) ?_
                    refine z_ws [cOb o ad (sa 0) (sb 0) tr (upd (upd x 4 (-1000000)) 4 l1_39), [(ad 4, .inl (D.1 100, 6, .inl tf1_39))], [(ad 5, .inl (D.1 100, 6, .inl bf1_39))], thP D sa ((some d, n, ra), (md, wn, od), c), thP D sb ht1_39, T] (List.Perm.refl _) ?_
                    exact z_rim gX hQX (tf1_39, bf1_39, l1_39, ht1_39) hu39.2.2 (zsv ((pace_least (by omega) (by omega) k5 k17 hR2 c48 c53).symm)) (by simp only [upd_upd]) (by first | decide | omega) (by first | decide | omega) dX0_pace_77
                · skip
                  refine z_iload_n (pc := 59) gX 3 dX0_pace_59 rfl rfl ?_
                  refine z_iconst (pc := 60) gX (-1) dX0_pace_60 (by decide) ?_
                  refine z_icmp_ne (pc := 61) gX 71 dX0_pace_61 (by decide) (fun c61 => ?_) (fun c61 => ?_)
                  · skip
                    refine z_aload_n (pc := 71) gX 0 dX0_pace_71 rfl rfl ?_
                    refine z_get (pc := 72) gX (zI_ok gX hAX) (zm 0 rfl) (ci := 0) (C := RX0) (T := TX0) (N := 14) rfl in_X0 12 (by decide) q221 (fun _ h => h) (v := .ref (ad 5)) rfl dX0_pace_72 ?_
                    refine z_iload_n (pc := 75) gX 3 dX0_pace_75 rfl rfl ?_
                    refine z_iald (pc := 76) gX (zI_ok gX hAX) (j := k0) (n := 6) (f := bf1_39) (zm 2 rfl) (by omega) (by decide) dX0_pace_76 ?_
                    refine z_ws [cOb o ad (sa 0) (sb 0) tr (upd (upd x 4 (-1000000)) 4 l1_39), [(ad 4, .inl (D.1 100, 6, .inl tf1_39))], [(ad 5, .inl (D.1 100, 6, .inl bf1_39))], thP D sa ((some d, n, ra), (md, wn, od), c), thP D sb ht1_39, T] (List.Perm.refl _) ?_
                    exact z_rim gX hQX (tf1_39, bf1_39, l1_39, ht1_39) hu39.2.2 (zsv ((pace_dig (by omega) (by omega) k5 k17 hR2 c48 hk0).symm)) (by simp only [upd_upd]) (by first | decide | omega) (by first | decide | omega) dX0_pace_77
                  · skip
                    exact absurd (show nI k0 < 0 by rw [c61]; decide) (nI_pos (by omega))
              · skip
                refine z_ldc (pc := 56) gX q1003 dX0_pace_56 ?_
                refine z_ws [cOb o ad (sa 0) (sb 0) tr (upd (upd x 4 (-1000000)) 4 l1_39), [(ad 4, .inl (D.1 100, 6, .inl tf1_39))], [(ad 5, .inl (D.1 100, 6, .inl bf1_39))], thP D sa ((some d, n, ra), (md, wn, od), c), thP D sb ht1_39, T] (List.Perm.refl _) ?_
                exact z_rim gX hQX (tf1_39, bf1_39, l1_39, ht1_39) hu39.2.2 (zsv ((pace_none (by omega) (by omega) k5 k17 hR2 c22 (Or.inr (Int32.not_lt.mp c53))).symm)) (by simp only [upd_upd]) (by first | decide | omega) (by first | decide | omega) dX0_pace_58
          · skip
            refine z_cMV (pc := 39) gX hAX [.int 0, .int 0, .int (nI j), .int (nI 6)] [] [0, 1, 2, 3, 4, 5, 6, 7, 8, 9, 10] [] (fun A1 => met_pacesR_6 l D B0 A1 o ad sa sb tr (upd x 4 (-1000000)) wn md d n c od ra T k ht tf bf j 6 0 0 0 hG ht0 hj (by omega) (by omega) (by decide) rfl (fun i hi => absurd hi (Nat.not_lt_zero _)) (by rw [pk_us]; exact pcR_0)) q1031 q1033 qs24 q47 q1034 (zm 0 rfl) (ci := 0) rfl rfl hd_X0_pacesFrom ⟨rfl, rfl⟩ ⟨(Nat.le_of_ble_eq_true rfl), (Nat.le_of_ble_eq_true rfl)⟩ rfl rfl (zpl 11 rfl (by decide +kernel)) rfl rfl (Nat.le_of_ble_eq_true rfl) ⟨(Nat.le_of_ble_eq_true rfl), (Nat.le_of_ble_eq_true rfl)⟩ dX0_pace_39 ?_
            intro u39 hu39
            obtain ⟨tf1_39, bf1_39, l1_39, ht1_39⟩ := u39
            have hu39 : pcT 0 0 tf1_39 ∧ pcR n k c j 6 ((0 + 1) * 729) l1_39 bf1_39 ∧ tOK ht1_39 := hu39
            refine z_re [0, 1, 2, 3, 4, 5, 6, 7, 8, 9, 10] [cOb o ad (sa 0) (sb 0) tr (upd (upd x 4 (-1000000)) 4 l1_39), [(ad 4, .inl (D.1 100, 6, .inl tf1_39))], [(ad 5, .inl (D.1 100, 6, .inl bf1_39))], [(sa 0, .inr (2, [.int (c 16), .int (c 1), .int (c 0), .int wn, .ref (sa 1), .ref (sa 2), .ref (sa 3), .ref (sa 4)]))], [(sa 1, .inr (16, [.int md, .ref d, .int (nI n)]))], [(sa 2, .inl (D.1 100, 7, .inl (fun i_ => c (9 + i_))))], [(sa 3, .inl (D.1 100, 7, .inl (fun i_ => c (2 + i_))))], [(sa 4, .inl (D.1 100, 7, .inl od))], [(d, .inl (D.1 104, 10, .inr (.inr (.inr (.inr (rF ra n))))))], thP D sb ht1_39, T] rfl (zpl 11 rfl (by decide +kernel)) ?_
            refine z_norm [cOb o ad (sa 0) (sb 0) tr (upd (upd x 4 (-1000000)) 4 l1_39), [(ad 4, .inl (D.1 100, 6, .inl tf1_39))], [(ad 5, .inl (D.1 100, 6, .inl bf1_39))], [(sa 0, .inr (2, [.int (c 16), .int (c 1), .int (c 0), .int wn, .ref (sa 1), .ref (sa 2), .ref (sa 3), .ref (sa 4)]))], [(sa 1, .inr (16, [.int md, .ref d, .int (nI n)]))], [(sa 2, .inl (D.1 100, 7, .inl (fun i_ => c (9 + i_))))], [(sa 3, .inl (D.1 100, 7, .inl (fun i_ => c (2 + i_))))], [(sa 4, .inl (D.1 100, 7, .inl od))], [(d, .inl (D.1 104, 10, .inr (.inr (.inr (.inr (rF ra n))))))], thP D sb ht1_39, T] 729 7290 ?_ rfl rfl rfl
            refine z_eq (lv₂ := [(0, .ref o), (1, .int (nI j)), (2, .int (nI 6)), (3, .int q)]) (st₂ := []) ?_ rfl rfl
            have hR2 : pcR n k c j 6 (3 ^ 6) l1_39 bf1_39 := hu39.2.1
            refine z_aload_n (pc := 42) gX 0 dX0_pace_42 rfl rfl ?_
            refine z_get (pc := 43) gX (zI_ok gX hAX) (zm 0 rfl) (ci := 0) (C := RX0) (T := TX0) (N := 14) rfl in_X0 13 (by decide) q222 (fun _ h => h) (v := .int l1_39) rfl dX0_pace_43 ?_
            refine z_ldc (pc := 46) gX q1003 dX0_pace_46 ?_
            refine z_icmp_eq (pc := 48) gX 56 dX0_pace_48 (by decide) (fun c48 => ?_) (fun c48 => ?_)
            · skip
              refine z_ldc (pc := 56) gX q1003 dX0_pace_56 ?_
              refine z_ws [cOb o ad (sa 0) (sb 0) tr (upd (upd x 4 (-1000000)) 4 l1_39), [(ad 4, .inl (D.1 100, 6, .inl tf1_39))], [(ad 5, .inl (D.1 100, 6, .inl bf1_39))], thP D sa ((some d, n, ra), (md, wn, od), c), thP D sb ht1_39, T] (List.Perm.refl _) ?_
              exact z_rim gX hQX (tf1_39, bf1_39, l1_39, ht1_39) hu39.2.2 (zsv ((pace_none (by omega) (by omega) k5 k17 hR2 c22 (Or.inl c48)).symm)) (by simp only [upd_upd]) (by first | decide | omega) (by first | decide | omega) dX0_pace_58
            · skip
              refine z_iload_n (pc := 51) gX 3 dX0_pace_51 rfl rfl ?_
              refine z_iload_n (pc := 52) gX 2 dX0_pace_52 rfl rfl ?_
              refine z_icmp_lt (pc := 53) gX 59 dX0_pace_53 (by decide) (fun c53 => ?_) (fun c53 => ?_)
              · skip
                rcases q_case c22 c53 (by omega) with rfl | ⟨k0, hk0, rfl⟩
                · skip
                  refine z_iload_n (pc := 59) gX 3 dX0_pace_59 rfl rfl ?_
                  refine z_iconst (pc := 60) gX (-1) dX0_pace_60 (by decide) ?_
                  refine z_icmp_ne (pc := 61) gX 71 dX0_pace_61 (by decide) (fun c61 => ?_) (fun c61 => ?_)
                  · skip
                    exact absurd c61 (by decide)
                  · skip
                    refine z_aload_n (pc := 64) gX 0 dX0_pace_64 rfl rfl ?_
                    refine z_get (pc := 65) gX (zI_ok gX hAX) (zm 0 rfl) (ci := 0) (C := RX0) (T := TX0) (N := 14) rfl in_X0 13 (by decide) q222 (fun _ h => h) (v := .int l1_39) rfl dX0_pace_65 ?_
                    refine z_goto (pc := 68) gX 77 dX0_pace_68 (by decide) ?_
                    refine z_ws [cOb o ad (sa 0) (sb 0) tr (upd (upd x 4 (-1000000)) 4 l1_39), [(ad 4, .inl (D.1 100, 6, .inl tf1_39))], [(ad 5, .inl (D.1 100, 6, .inl bf1_39))], thP D sa ((some d, n, ra), (md, wn, od), c), thP D sb ht1_39, T] (List.Perm.refl _) ?_
                    exact z_rim gX hQX (tf1_39, bf1_39, l1_39, ht1_39) hu39.2.2 (zsv ((pace_least (by omega) (by omega) k5 k17 hR2 c48 c53).symm)) (by simp only [upd_upd]) (by first | decide | omega) (by first | decide | omega) dX0_pace_77
                · skip
                  refine z_iload_n (pc := 59) gX 3 dX0_pace_59 rfl rfl ?_
                  refine z_iconst (pc := 60) gX (-1) dX0_pace_60 (by decide) ?_
                  refine z_icmp_ne (pc := 61) gX 71 dX0_pace_61 (by decide) (fun c61 => ?_) (fun c61 => ?_)
                  · skip
                    refine z_aload_n (pc := 71) gX 0 dX0_pace_71 rfl rfl ?_
                    refine z_get (pc := 72) gX (zI_ok gX hAX) (zm 0 rfl) (ci := 0) (C := RX0) (T := TX0) (N := 14) rfl in_X0 12 (by decide) q221 (fun _ h => h) (v := .ref (ad 5)) rfl dX0_pace_72 ?_
                    refine z_iload_n (pc := 75) gX 3 dX0_pace_75 rfl rfl ?_
                    refine z_iald (pc := 76) gX (zI_ok gX hAX) (j := k0) (n := 6) (f := bf1_39) (zm 2 rfl) (by omega) (by decide) dX0_pace_76 ?_
                    refine z_ws [cOb o ad (sa 0) (sb 0) tr (upd (upd x 4 (-1000000)) 4 l1_39), [(ad 4, .inl (D.1 100, 6, .inl tf1_39))], [(ad 5, .inl (D.1 100, 6, .inl bf1_39))], thP D sa ((some d, n, ra), (md, wn, od), c), thP D sb ht1_39, T] (List.Perm.refl _) ?_
                    exact z_rim gX hQX (tf1_39, bf1_39, l1_39, ht1_39) hu39.2.2 (zsv ((pace_dig (by omega) (by omega) k5 k17 hR2 c48 hk0).symm)) (by simp only [upd_upd]) (by first | decide | omega) (by first | decide | omega) dX0_pace_77
                  · skip
                    exact absurd (show nI k0 < 0 by rw [c61]; decide) (nI_pos (by omega))
              · skip
                refine z_ldc (pc := 56) gX q1003 dX0_pace_56 ?_
                refine z_ws [cOb o ad (sa 0) (sb 0) tr (upd (upd x 4 (-1000000)) 4 l1_39), [(ad 4, .inl (D.1 100, 6, .inl tf1_39))], [(ad 5, .inl (D.1 100, 6, .inl bf1_39))], thP D sa ((some d, n, ra), (md, wn, od), c), thP D sb ht1_39, T] (List.Perm.refl _) ?_
                exact z_rim gX hQX (tf1_39, bf1_39, l1_39, ht1_39) hu39.2.2 (zsv ((pace_none (by omega) (by omega) k5 k17 hR2 c22 (Or.inr (Int32.not_lt.mp c53))).symm)) (by simp only [upd_upd]) (by first | decide | omega) (by first | decide | omega) dX0_pace_58
        · skip
          refine z_ldc (pc := 25) gX q350 dX0_pace_25 ?_
          refine z_ws [cOb o ad (sa 0) (sb 0) tr x, [(ad 4, .inl (D.1 100, 6, .inl tf))], [(ad 5, .inl (D.1 100, 6, .inl bf))], thP D sa ((some d, n, ra), (md, wn, od), c), thP D sb ht, T] (List.Perm.refl _) ?_
          exact z_rim gX hQX (tf, bf, x 4, ht) ht0 (zsv (by simp [mPace, k5, k17, c22])) (by simp only [upd_self]) (by first | decide | omega) (by first | decide | omega) dX0_pace_27
theorem hd_X0_pace : zHd yX0_pace 3 := by unfold zHd; decide +kernel

