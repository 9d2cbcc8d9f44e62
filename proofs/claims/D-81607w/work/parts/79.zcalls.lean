set_option maxRecDepth 100000
/-! THE LAW's CALLS, one by one: component and reference answer alike -/
theorem mStair_same {tp : Nat → Int32} {t : Nat} {x c x1 c1 x2 c2 : Nat → Int32} {r r2 : Int32} (h1 : mStair tp t x c r x1 c1) (h2 : mStair tp t x c r2 x2 c2) : r = r2 ∧ c1 = c2 ∧ ∀ j, j < 5 → x2 j = x1 j := by
  unfold mStair at h1 h2
  rcases e : pAll tp t (fun _ => 0) with z | z
  · rw [e] at h1 h2
    exact ⟨h1.1.trans h2.1.symm, h1.2.1.trans h2.2.1.symm, fun j hj => (h2.2.2 j hj).trans (h1.2.2 j hj).symm⟩
  · rw [e] at h1 h2
    exact ⟨h1.1.trans h2.1.symm, h1.2.1.trans h2.2.1.symm, fun j hj => (h2.2.2 j hj).trans (h1.2.2 j hj).symm⟩
def askM (c : Nat → Int32) (r w : Int32) (x tr x1 tr1 : Nat → Int32) : Prop :=
  if (mIn r 0 (c 17 - 1) && mIn w 0 1) = true then x1 = upd x 4 (nI (bgs (askL c r.toNatClampNeg w) (0, tr)).1) ∧ tr1 = (bgs (askL c r.toNatClampNeg w) (0, tr)).2 else x1 = x ∧ tr1 = tr
theorem mIn_cl {r : Int32} {n : Int32} (h : mIn r 0 n = true) : nI r.toNatClampNeg = r := by
  simp only [mIn, Bool.and_eq_true, decide_eq_true_eq] at h
  obtain ⟨a, ha, rfl⟩ := nI_of (Int32.not_lt.mpr h.1)
  rw [nI_clamp ha]
theorem ask_same {c : Nat → Int32} {r w : Int32} {t : Nat} {tf x tr tf1 x1 tr1 : Nat → Int32} {v v2 : Int32} {t1 : Nat} (h1 : askR c r w t tf v t1 tf1) (h2 : (v2, x1, tr1) = mAsk c x tr r w) : v = v2 ∧ askM c r w x tr x1 tr1 := by
  unfold askR at h1
  unfold mAsk at h2
  unfold askM
  split at h1
  · rename_i hi
    rw [if_pos hi] at h2 ⊢
    obtain ⟨hr, -⟩ := (Bool.and_eq_true _ _).mp hi
    have hn := mIn_cl hr
    simp only [askV, askL] at h1 ⊢
    by_cases hw : w = 0
    · rw [if_pos hw] at h1 h2
      simp only [if_pos hw] at h1 ⊢
      simp only [Prod.mk.injEq] at h2
      exact ⟨h1.1.trans h2.1.symm, h2.2.1, h2.2.2⟩
    · rw [if_neg hw] at h1 h2
      simp only [if_neg hw] at h1 ⊢
      by_cases hk : c (18 + r.toNatClampNeg) < 4
      · simp only [if_pos hk] at h1 h2 ⊢
        simp only [Prod.mk.injEq] at h2
        exact ⟨h1.1.trans h2.1.symm, h2.2.1, h2.2.2⟩
      · simp only [if_neg hk] at h1 h2 ⊢
        simp only [Prod.mk.injEq] at h2
        exact ⟨by rw [h1.1, h2.1, hn], h2.2.1, h2.2.2⟩
  · rename_i hi
    rw [if_neg hi] at h2 ⊢
    simp only [Prod.mk.injEq] at h2
    exact ⟨h1.1.trans h2.1.symm, h2.2.1, h2.2.2⟩
theorem tr_same {t : Nat} {tf tr : Nat → Int32} {i : Int32} (h : ∀ z, z < t → tf z = tr z) (ht : t ≤ 16 := by assumption) : mTrace t tf i = mTrace t tr i := by
  unfold mTrace
  split
  · rename_i hi
    obtain ⟨p, hp, rfl⟩ := inN (k := t) (by omega) hi
    rw [nI_clamp (by omega)]
    exact h p hp
  · rfl
set_option maxHeartbeats 4000000 in
theorem law_row {pX : Program} {l : Launch} {eX : Env} {sX : State} {mX : MethodId} {argsX : Array Value} {blX : List Frame} {mtX : Method} {cX : Code} {QX : State → Prop} {D : va_G} {A : Nat → Prop} {B0 cells slots b L i : Nat} {xs : Nat → Int32} {Fr : va_W} (gX : zG pX sX mX argsX mtX cX cL_law 4 "StepRidersLaw" (some .boolean) D B0) (hAX : zA sX A B0) (hX : va_X b L xs sX sX.heap) (hbl : b < sX.heap.size) (hbA : ¬ A b) (hL : L ≤ 384) (hi6 : i + 6 ≤ L) (hl : l.stackTraces = false) (hNP : NatNpe) (hce : cells + 1000 ≤ 603072) (hsl : slots + 9000 ≤ 7262314) (o : Nat) (ad : Nat → Nat) (sa : Nat → Nat) (sb : Nat → Nat) (sh : Nat → Nat) (om : Nat) (am : Nat → Nat) (tr : Nat) (x : Nat → Int32) (xm : Nat → Int32) (sz : Nat → Int32) (wd : Nat → Int32) (it : Nat → Int32) (rw : Nat → rT) (n : Nat) (hx3 : x 3 = xm 0) (hW : rwR rw sz wd it)
    (kk : ∀ (r__196 : Int32) (xm1_196 : Nat → Int32) (sz1_196 : Nat → Int32) (wd1_196 : Nat → Int32) (it1_196 : Nat → Int32) (rw1_196 : Nat → rT), ((r__196, xm1_196, sz1_196, wd1_196, it1_196) = mRow xm sz wd it (xs (i + 1)) (xs (i + 2)) (xs (i + 3)) ∧ rwR rw1_196 sz1_196 wd1_196 it1_196) → zJ pX l eX room_1 sX mX argsX blX mtX cX QX 4 (zI D A sX [cOb o ad (sa 0) (sb 0) tr (upd x 3 (xm1_196 0)), [(ad 0, .inl (D.1 105, 8, .inr (.inr (.inr (.inr (rF sh 8))))))], mOb om am xm1_196, [(am 0, .inl (D.1 100, 8, .inl sz1_196))], [(am 1, .inl (D.1 100, 8, .inl wd1_196))], [(am 2, .inl (D.1 100, 320, .inl it1_196))], slP D sh rw1_196 8, Fr]) (cells + 3) (slots + 60) 1149 [(0, .ref b), (1, .ref o), (2, .ref om), (3, .int (nI i))] []) :
    zJ pX l eX room_1 sX mX argsX blX mtX cX QX 4 (zI D A sX [cOb o ad (sa 0) (sb 0) tr x, [(ad 0, .inl (D.1 105, 8, .inr (.inr (.inr (.inr (rF sh 8))))))], mOb om am xm, [(am 0, .inl (D.1 100, 8, .inl sz))], [(am 1, .inl (D.1 100, 8, .inl wd))], [(am 2, .inl (D.1 100, 320, .inl it))], slP D sh rw 8, Fr]) cells slots 180 [(0, .ref b), (1, .ref o), (2, .ref om), (3, .int (nI i))] [] := by
  refine z_aload_n (pc := 180) gX 1 dL_law_180 rfl rfl ?_
  refine z_aload_n (pc := 181) gX 0 dL_law_181 rfl rfl ?_
  refine z_iload_n (pc := 182) gX 3 dL_law_182 rfl rfl ?_
  refine z_iconst (pc := 183) gX 1 dL_law_183 (by decide) ?_
  refine z_iadd (pc := 184) gX dL_law_184 ?_
  refine z_top (nI (i + 1)) (nI_add i 1) ?_
  refine z_sld (pc := 185) gX (j := (i + 1)) hX hbl hbA (by omega) hL dL_law_185 ?_
  refine z_aload_n (pc := 186) gX 0 dL_law_186 rfl rfl ?_
  refine z_iload_n (pc := 187) gX 3 dL_law_187 rfl rfl ?_
  refine z_iconst (pc := 188) gX 2 dL_law_188 (by decide) ?_
  refine z_iadd (pc := 189) gX dL_law_189 ?_
  refine z_top (nI (i + 2)) (nI_add i 2) ?_
  refine z_sld (pc := 190) gX (j := (i + 2)) hX hbl hbA (by omega) hL dL_law_190 ?_
  refine z_aload_n (pc := 191) gX 0 dL_law_191 rfl rfl ?_
  refine z_iload_n (pc := 192) gX 3 dL_law_192 rfl rfl ?_
  refine z_iconst (pc := 193) gX 3 dL_law_193 (by decide) ?_
  refine z_iadd (pc := 194) gX dL_law_194 ?_
  refine z_top (nI (i + 3)) (nI_add i 3) ?_
  refine z_sld (pc := 195) gX (j := (i + 3)) hX hbl hbA (by omega) hL dL_law_195 ?_
  refine z_cMVW (pc := 196) gX hAX [.int (xs (i + 1)), .int (xs (i + 2)), .int (xs (i + 3))] [] [0, 1, 6] [2, 3, 4, 5, 7] (fun A1 => met_X0_row l D B0 A1 o ad sa sb tr x sh rw xm sz wd it (xs (i + 1)) (xs (i + 2)) (xs (i + 3)) (by first | assumption | omega) (by first | assumption | omega) (by first | assumption | omega)) q252 q253 q254 q47 q255 (zm 0 rfl) (ci := 0) rfl rfl hd_X0_row ⟨rfl, rfl⟩ ⟨(Nat.le_of_ble_eq_true rfl), (Nat.le_of_ble_eq_true rfl)⟩ rfl rfl rfl rfl rfl (Nat.le_of_ble_eq_true rfl) ⟨by show _ ≤ (603072 : Nat); omega, by show _ ≤ (7262314 : Nat); omega⟩ dL_law_196 ?_
  intro u196 hu196
  obtain ⟨r__196, xm1_196, sz1_196, wd1_196, it1_196, rw1_196⟩ := u196
  have hu196 : (r__196, xm1_196, sz1_196, wd1_196, it1_196) = mRow xm sz wd it (xs (i + 1)) (xs (i + 2)) (xs (i + 3)) ∧ rwR rw1_196 sz1_196 wd1_196 it1_196 := hu196
  refine z_re [0, 1, 3, 4, 5, 6, 2, 7] [cOb o ad (sa 0) (sb 0) tr (upd x 3 (xm1_196 0)), [(ad 0, .inl (D.1 105, 8, .inr (.inr (.inr (.inr (rF sh 8))))))], mOb om am xm, [(am 0, .inl (D.1 100, 8, .inl sz))], [(am 1, .inl (D.1 100, 8, .inl wd))], [(am 2, .inl (D.1 100, 320, .inl it))], slP D sh rw1_196 8, Fr] rfl rfl ?_
  refine z_norm [cOb o ad (sa 0) (sb 0) tr (upd x 3 (xm1_196 0)), [(ad 0, .inl (D.1 105, 8, .inr (.inr (.inr (.inr (rF sh 8))))))], mOb om am xm, [(am 0, .inl (D.1 100, 8, .inl sz))], [(am 1, .inl (D.1 100, 8, .inl wd))], [(am 2, .inl (D.1 100, 320, .inl it))], slP D sh rw1_196 8, Fr] (cells + 3) (slots + 60) ?_ rfl rfl rfl
  refine z_eq (lv₂ := [(0, .ref b), (1, .ref o), (2, .ref om), (3, .int (nI i))]) (st₂ := [.int r__196]) ?_ rfl rfl
  refine z_aload_n (pc := 199) gX 2 dL_law_199 rfl rfl ?_
  refine z_aload_n (pc := 200) gX 0 dL_law_200 rfl rfl ?_
  refine z_iload_n (pc := 201) gX 3 dL_law_201 rfl rfl ?_
  refine z_iconst (pc := 202) gX 1 dL_law_202 (by decide) ?_
  refine z_iadd (pc := 203) gX dL_law_203 ?_
  refine z_top (nI (i + 1)) (nI_add i 1) ?_
  refine z_sld (pc := 204) gX (j := (i + 1)) hX hbl hbA (by omega) hL dL_law_204 ?_
  refine z_aload_n (pc := 205) gX 0 dL_law_205 rfl rfl ?_
  refine z_iload_n (pc := 206) gX 3 dL_law_206 rfl rfl ?_
  refine z_iconst (pc := 207) gX 2 dL_law_207 (by decide) ?_
  refine z_iadd (pc := 208) gX dL_law_208 ?_
  refine z_top (nI (i + 2)) (nI_add i 2) ?_
  refine z_sld (pc := 209) gX (j := (i + 2)) hX hbl hbA (by omega) hL dL_law_209 ?_
  refine z_aload_n (pc := 210) gX 0 dL_law_210 rfl rfl ?_
  refine z_iload_n (pc := 211) gX 3 dL_law_211 rfl rfl ?_
  refine z_iconst (pc := 212) gX 3 dL_law_212 (by decide) ?_
  refine z_iadd (pc := 213) gX dL_law_213 ?_
  refine z_top (nI (i + 3)) (nI_add i 3) ?_
  refine z_sld (pc := 214) gX (j := (i + 3)) hX hbl hbA (by omega) hL dL_law_214 ?_
  refine z_cMV (pc := 215) gX hAX [.int (xs (i + 1)), .int (xs (i + 2)), .int (xs (i + 3))] [.int r__196] [2, 3, 4, 5] [0, 1, 6, 7] (fun A1 => met_X4_row l D B0 A1 om am xm sz wd it (xs (i + 1)) (xs (i + 2)) (xs (i + 3)) ) q1445 q1446 q1447 q54 q1448 (zm 2 rfl) (ci := 4) rfl rfl hd_X4_row ⟨rfl, rfl⟩ ⟨(Nat.le_of_ble_eq_true rfl), (Nat.le_of_ble_eq_true rfl)⟩ rfl rfl rfl rfl rfl (Nat.le_of_ble_eq_true rfl) ⟨by show _ ≤ (603072 : Nat); omega, by show _ ≤ (7262314 : Nat); omega⟩ dL_law_215 ?_
  intro u215 hu215
  obtain ⟨r_215, x1_215, sz1_215, wd1_215, it1_215⟩ := u215
  have hu215 : (r_215, x1_215, sz1_215, wd1_215, it1_215) = mRow xm sz wd it (xs (i + 1)) (xs (i + 2)) (xs (i + 3)) := hu215
  refine z_re [4, 5, 0, 1, 2, 3, 6, 7] [cOb o ad (sa 0) (sb 0) tr (upd x 3 (xm1_196 0)), [(ad 0, .inl (D.1 105, 8, .inr (.inr (.inr (.inr (rF sh 8))))))], mOb om am x1_215, [(am 0, .inl (D.1 100, 8, .inl sz1_215))], [(am 1, .inl (D.1 100, 8, .inl wd1_215))], [(am 2, .inl (D.1 100, 320, .inl it1_215))], slP D sh rw1_196 8, Fr] rfl rfl ?_
  refine z_eq (lv₂ := [(0, .ref b), (1, .ref o), (2, .ref om), (3, .int (nI i))]) (st₂ := [.int r_215, .int r__196]) ?_ rfl rfl
  have he := (hu196.1).trans (hu215).symm
  simp only [Prod.mk.injEq] at he
  obtain ⟨rfl, rfl, rfl, rfl, rfl⟩ := he
  refine z_icmp_eq (pc := 218) gX 1149 dL_law_218 (by decide) (fun c218 => ?_) (fun c218 => ?_)
  · skip
    exact kk r__196 xm1_196 sz1_196 wd1_196 it1_196 rw1_196 hu196
  · skip
    exact absurd rfl c218
set_option maxHeartbeats 4000000 in
theorem law_set {pX : Program} {l : Launch} {eX : Env} {sX : State} {mX : MethodId} {argsX : Array Value} {blX : List Frame} {mtX : Method} {cX : Code} {QX : State → Prop} {D : va_G} {A : Nat → Prop} {B0 cells slots b L i : Nat} {xs : Nat → Int32} {Fr : va_W} (gX : zG pX sX mX argsX mtX cX cL_law 4 "StepRidersLaw" (some .boolean) D B0) (hAX : zA sX A B0) (hX : va_X b L xs sX sX.heap) (hbl : b < sX.heap.size) (hbA : ¬ A b) (hL : L ≤ 384) (hi6 : i + 6 ≤ L) (hl : l.stackTraces = false) (hNP : NatNpe) (hce : cells + 1000 ≤ 603072) (hsl : slots + 9000 ≤ 7262314) (o : Nat) (ad : Nat → Nat) (sa : Nat → Nat) (sb : Nat → Nat) (sh : Nat → Nat) (om : Nat) (am : Nat → Nat) (tr : Nat) (x : Nat → Int32) (xm : Nat → Int32) (sz : Nat → Int32) (wd : Nat → Int32) (it : Nat → Int32) (rw : Nat → rT) (hx3 : x 3 = xm 0) (hW : rwR rw sz wd it) (hszm : ∀ q : Nat, q < 8 → sz q ≤ 40)
    (kk : ∀ (r__239 : Int32) (xm1_239 : Nat → Int32) (it1_239 : Nat → Int32) (rw1_239 : Nat → rT), ((r__239, xm1_239, it1_239) = mSet xm sz wd it (xs (i + 1)) (xs (i + 2)) (xs (i + 3)) ∧ rwR rw1_239 sz wd it1_239) → zJ pX l eX room_1 sX mX argsX blX mtX cX QX 4 (zI D A sX [cOb o ad (sa 0) (sb 0) tr (upd x 3 (xm1_239 0)), [(ad 0, .inl (D.1 105, 8, .inr (.inr (.inr (.inr (rF sh 8))))))], mOb om am xm1_239, [(am 0, .inl (D.1 100, 8, .inl sz))], [(am 1, .inl (D.1 100, 8, .inl wd))], [(am 2, .inl (D.1 100, 320, .inl it1_239))], slP D sh rw1_239 8, Fr]) (cells + 3) (slots + 222) 1149 [(0, .ref b), (1, .ref o), (2, .ref om), (3, .int (nI i))] []) :
    zJ pX l eX room_1 sX mX argsX blX mtX cX QX 4 (zI D A sX [cOb o ad (sa 0) (sb 0) tr x, [(ad 0, .inl (D.1 105, 8, .inr (.inr (.inr (.inr (rF sh 8))))))], mOb om am xm, [(am 0, .inl (D.1 100, 8, .inl sz))], [(am 1, .inl (D.1 100, 8, .inl wd))], [(am 2, .inl (D.1 100, 320, .inl it))], slP D sh rw 8, Fr]) cells slots 223 [(0, .ref b), (1, .ref o), (2, .ref om), (3, .int (nI i))] [] := by
  refine z_aload_n (pc := 223) gX 1 dL_law_223 rfl rfl ?_
  refine z_aload_n (pc := 224) gX 0 dL_law_224 rfl rfl ?_
  refine z_iload_n (pc := 225) gX 3 dL_law_225 rfl rfl ?_
  refine z_iconst (pc := 226) gX 1 dL_law_226 (by decide) ?_
  refine z_iadd (pc := 227) gX dL_law_227 ?_
  refine z_top (nI (i + 1)) (nI_add i 1) ?_
  refine z_sld (pc := 228) gX (j := (i + 1)) hX hbl hbA (by omega) hL dL_law_228 ?_
  refine z_aload_n (pc := 229) gX 0 dL_law_229 rfl rfl ?_
  refine z_iload_n (pc := 230) gX 3 dL_law_230 rfl rfl ?_
  refine z_iconst (pc := 231) gX 2 dL_law_231 (by decide) ?_
  refine z_iadd (pc := 232) gX dL_law_232 ?_
  refine z_top (nI (i + 2)) (nI_add i 2) ?_
  refine z_sld (pc := 233) gX (j := (i + 2)) hX hbl hbA (by omega) hL dL_law_233 ?_
  refine z_aload_n (pc := 234) gX 0 dL_law_234 rfl rfl ?_
  refine z_iload_n (pc := 235) gX 3 dL_law_235 rfl rfl ?_
  refine z_iconst (pc := 236) gX 3 dL_law_236 (by decide) ?_
  refine z_iadd (pc := 237) gX dL_law_237 ?_
  refine z_top (nI (i + 3)) (nI_add i 3) ?_
  refine z_sld (pc := 238) gX (j := (i + 3)) hX hbl hbA (by omega) hL dL_law_238 ?_
  refine z_cMVW (pc := 239) gX hAX [.int (xs (i + 1)), .int (xs (i + 2)), .int (xs (i + 3))] [] [0, 1, 6] [2, 3, 4, 5, 7] (fun A1 => met_X0_set l D B0 A1 o ad sa sb tr x sh rw xm sz wd it (xs (i + 1)) (xs (i + 2)) (xs (i + 3)) (by first | assumption | omega) (by first | assumption | omega) (by first | assumption | omega)) q364 q365 q366 q47 q367 (zm 0 rfl) (ci := 0) rfl rfl hd_X0_set ⟨rfl, rfl⟩ ⟨(Nat.le_of_ble_eq_true rfl), (Nat.le_of_ble_eq_true rfl)⟩ rfl rfl rfl rfl rfl (Nat.le_of_ble_eq_true rfl) ⟨by show _ ≤ (603072 : Nat); omega, by show _ ≤ (7262314 : Nat); omega⟩ dL_law_239 ?_
  intro u239 hu239
  obtain ⟨r__239, xm1_239, it1_239, rw1_239⟩ := u239
  have hu239 : (r__239, xm1_239, it1_239) = mSet xm sz wd it (xs (i + 1)) (xs (i + 2)) (xs (i + 3)) ∧ rwR rw1_239 sz wd it1_239 := hu239
  refine z_re [0, 1, 3, 4, 5, 6, 2, 7] [cOb o ad (sa 0) (sb 0) tr (upd x 3 (xm1_239 0)), [(ad 0, .inl (D.1 105, 8, .inr (.inr (.inr (.inr (rF sh 8))))))], mOb om am xm, [(am 0, .inl (D.1 100, 8, .inl sz))], [(am 1, .inl (D.1 100, 8, .inl wd))], [(am 2, .inl (D.1 100, 320, .inl it))], slP D sh rw1_239 8, Fr] rfl rfl ?_
  refine z_norm [cOb o ad (sa 0) (sb 0) tr (upd x 3 (xm1_239 0)), [(ad 0, .inl (D.1 105, 8, .inr (.inr (.inr (.inr (rF sh 8))))))], mOb om am xm, [(am 0, .inl (D.1 100, 8, .inl sz))], [(am 1, .inl (D.1 100, 8, .inl wd))], [(am 2, .inl (D.1 100, 320, .inl it))], slP D sh rw1_239 8, Fr] (cells + 3) (slots + 222) ?_ rfl rfl rfl
  refine z_eq (lv₂ := [(0, .ref b), (1, .ref o), (2, .ref om), (3, .int (nI i))]) (st₂ := [.int r__239]) ?_ rfl rfl
  refine z_aload_n (pc := 242) gX 2 dL_law_242 rfl rfl ?_
  refine z_aload_n (pc := 243) gX 0 dL_law_243 rfl rfl ?_
  refine z_iload_n (pc := 244) gX 3 dL_law_244 rfl rfl ?_
  refine z_iconst (pc := 245) gX 1 dL_law_245 (by decide) ?_
  refine z_iadd (pc := 246) gX dL_law_246 ?_
  refine z_top (nI (i + 1)) (nI_add i 1) ?_
  refine z_sld (pc := 247) gX (j := (i + 1)) hX hbl hbA (by omega) hL dL_law_247 ?_
  refine z_aload_n (pc := 248) gX 0 dL_law_248 rfl rfl ?_
  refine z_iload_n (pc := 249) gX 3 dL_law_249 rfl rfl ?_
  refine z_iconst (pc := 250) gX 2 dL_law_250 (by decide) ?_
  refine z_iadd (pc := 251) gX dL_law_251 ?_
  refine z_top (nI (i + 2)) (nI_add i 2) ?_
  refine z_sld (pc := 252) gX (j := (i + 2)) hX hbl hbA (by omega) hL dL_law_252 ?_
  refine z_aload_n (pc := 253) gX 0 dL_law_253 rfl rfl ?_
  refine z_iload_n (pc := 254) gX 3 dL_law_254 rfl rfl ?_
  refine z_iconst (pc := 255) gX 3 dL_law_255 (by decide) ?_
  refine z_iadd (pc := 256) gX dL_law_256 ?_
  refine z_top (nI (i + 3)) (nI_add i 3) ?_
  refine z_sld (pc := 257) gX (j := (i + 3)) hX hbl hbA (by omega) hL dL_law_257 ?_
  refine z_cMV (pc := 258) gX hAX [.int (xs (i + 1)), .int (xs (i + 2)), .int (xs (i + 3))] [.int r__239] [2, 3, 4, 5] [0, 1, 6, 7] (fun A1 => met_X4_set l D B0 A1 om am xm sz wd it (xs (i + 1)) (xs (i + 2)) (xs (i + 3)) (by first | assumption | omega)) q1464 q1465 q1466 q54 q1467 (zm 2 rfl) (ci := 4) rfl rfl hd_X4_set ⟨rfl, rfl⟩ ⟨(Nat.le_of_ble_eq_true rfl), (Nat.le_of_ble_eq_true rfl)⟩ rfl rfl rfl rfl rfl (Nat.le_of_ble_eq_true rfl) ⟨by show _ ≤ (603072 : Nat); omega, by show _ ≤ (7262314 : Nat); omega⟩ dL_law_258 ?_
  intro u258 hu258
  obtain ⟨r_258, x1_258, it1_258⟩ := u258
  have hu258 : (r_258, x1_258, it1_258) = mSet xm sz wd it (xs (i + 1)) (xs (i + 2)) (xs (i + 3)) := hu258
  refine z_re [4, 5, 0, 1, 2, 3, 6, 7] [cOb o ad (sa 0) (sb 0) tr (upd x 3 (xm1_239 0)), [(ad 0, .inl (D.1 105, 8, .inr (.inr (.inr (.inr (rF sh 8))))))], mOb om am x1_258, [(am 0, .inl (D.1 100, 8, .inl sz))], [(am 1, .inl (D.1 100, 8, .inl wd))], [(am 2, .inl (D.1 100, 320, .inl it1_258))], slP D sh rw1_239 8, Fr] rfl rfl ?_
  refine z_eq (lv₂ := [(0, .ref b), (1, .ref o), (2, .ref om), (3, .int (nI i))]) (st₂ := [.int r_258, .int r__239]) ?_ rfl rfl
  have he := (hu239.1).trans (hu258).symm
  simp only [Prod.mk.injEq] at he
  obtain ⟨rfl, rfl, rfl⟩ := he
  refine z_icmp_eq (pc := 261) gX 1149 dL_law_261 (by decide) (fun c261 => ?_) (fun c261 => ?_)
  · skip
    exact kk r__239 xm1_239 it1_239 rw1_239 hu239
  · skip
    exact absurd rfl c261
set_option maxHeartbeats 4000000 in
theorem law_copy {pX : Program} {l : Launch} {eX : Env} {sX : State} {mX : MethodId} {argsX : Array Value} {blX : List Frame} {mtX : Method} {cX : Code} {QX : State → Prop} {D : va_G} {A : Nat → Prop} {B0 cells slots b L i : Nat} {xs : Nat → Int32} {Fr : va_W} (gX : zG pX sX mX argsX mtX cX cL_law 4 "StepRidersLaw" (some .boolean) D B0) (hAX : zA sX A B0) (hX : va_X b L xs sX sX.heap) (hbl : b < sX.heap.size) (hbA : ¬ A b) (hL : L ≤ 384) (hi6 : i + 6 ≤ L) (hl : l.stackTraces = false) (hNP : NatNpe) (hce : cells + 1000 ≤ 603072) (hsl : slots + 9000 ≤ 7262314) (o : Nat) (ad : Nat → Nat) (sa : Nat → Nat) (sb : Nat → Nat) (sh : Nat → Nat) (om : Nat) (am : Nat → Nat) (tr : Nat) (x : Nat → Int32) (xm : Nat → Int32) (sz : Nat → Int32) (wd : Nat → Int32) (it : Nat → Int32) (mv : Nat → Int32) (rw : Nat → rT) (n : Nat) (hx3 : x 3 = xm 0) (hW : rwR rw sz wd it) (hN : itN sz wd it) (hszm : ∀ q : Nat, q < 8 → sz q ≤ 40)
    (kk : ∀ (r__292 : Int32) (xm1_292 : Nat → Int32) (it1_292 : Nat → Int32) (rw1_292 : Nat → rT) (mv1_321 : Nat → Int32), ((r__292, xm1_292, it1_292) = mCopy xm sz wd it (xs (i + 1)) (xs (i + 2)) (xs (i + 3)) (xs (i + 4)) (xs (i + 5)) ∧ rwR rw1_292 sz wd it1_292) → zJ pX l eX room_1 sX mX argsX blX mtX cX QX 4 (zI D A sX [cOb o ad (sa 0) (sb 0) tr (upd x 3 (xm1_292 0)), [(ad 0, .inl (D.1 105, 8, .inr (.inr (.inr (.inr (rF sh 8))))))], mOb om am xm1_292, [(am 0, .inl (D.1 100, 8, .inl sz))], [(am 1, .inl (D.1 100, 8, .inl wd))], [(am 2, .inl (D.1 100, 320, .inl it1_292))], [(am 3, .inl (D.1 100, 40, .inl mv1_321))], slP D sh rw1_292 8, Fr]) (cells + 3) (slots + 410) 1149 [(0, .ref b), (1, .ref o), (2, .ref om), (3, .int (nI i))] []) :
    zJ pX l eX room_1 sX mX argsX blX mtX cX QX 4 (zI D A sX [cOb o ad (sa 0) (sb 0) tr x, [(ad 0, .inl (D.1 105, 8, .inr (.inr (.inr (.inr (rF sh 8))))))], mOb om am xm, [(am 0, .inl (D.1 100, 8, .inl sz))], [(am 1, .inl (D.1 100, 8, .inl wd))], [(am 2, .inl (D.1 100, 320, .inl it))], [(am 3, .inl (D.1 100, 40, .inl mv))], slP D sh rw 8, Fr]) cells slots 266 [(0, .ref b), (1, .ref o), (2, .ref om), (3, .int (nI i))] [] := by
  refine z_aload_n (pc := 266) gX 1 dL_law_266 rfl rfl ?_
  refine z_aload_n (pc := 267) gX 0 dL_law_267 rfl rfl ?_
  refine z_iload_n (pc := 268) gX 3 dL_law_268 rfl rfl ?_
  refine z_iconst (pc := 269) gX 1 dL_law_269 (by decide) ?_
  refine z_iadd (pc := 270) gX dL_law_270 ?_
  refine z_top (nI (i + 1)) (nI_add i 1) ?_
  refine z_sld (pc := 271) gX (j := (i + 1)) hX hbl hbA (by omega) hL dL_law_271 ?_
  refine z_aload_n (pc := 272) gX 0 dL_law_272 rfl rfl ?_
  refine z_iload_n (pc := 273) gX 3 dL_law_273 rfl rfl ?_
  refine z_iconst (pc := 274) gX 2 dL_law_274 (by decide) ?_
  refine z_iadd (pc := 275) gX dL_law_275 ?_
  refine z_top (nI (i + 2)) (nI_add i 2) ?_
  refine z_sld (pc := 276) gX (j := (i + 2)) hX hbl hbA (by omega) hL dL_law_276 ?_
  refine z_aload_n (pc := 277) gX 0 dL_law_277 rfl rfl ?_
  refine z_iload_n (pc := 278) gX 3 dL_law_278 rfl rfl ?_
  refine z_iconst (pc := 279) gX 3 dL_law_279 (by decide) ?_
  refine z_iadd (pc := 280) gX dL_law_280 ?_
  refine z_top (nI (i + 3)) (nI_add i 3) ?_
  refine z_sld (pc := 281) gX (j := (i + 3)) hX hbl hbA (by omega) hL dL_law_281 ?_
  refine z_aload_n (pc := 282) gX 0 dL_law_282 rfl rfl ?_
  refine z_iload_n (pc := 283) gX 3 dL_law_283 rfl rfl ?_
  refine z_iconst (pc := 284) gX 4 dL_law_284 (by decide) ?_
  refine z_iadd (pc := 285) gX dL_law_285 ?_
  refine z_top (nI (i + 4)) (nI_add i 4) ?_
  refine z_sld (pc := 286) gX (j := (i + 4)) hX hbl hbA (by omega) hL dL_law_286 ?_
  refine z_aload_n (pc := 287) gX 0 dL_law_287 rfl rfl ?_
  refine z_iload_n (pc := 288) gX 3 dL_law_288 rfl rfl ?_
  refine z_iconst (pc := 289) gX 5 dL_law_289 (by decide) ?_
  refine z_iadd (pc := 290) gX dL_law_290 ?_
  refine z_top (nI (i + 5)) (nI_add i 5) ?_
  refine z_sld (pc := 291) gX (j := (i + 5)) hX hbl hbA (by omega) hL dL_law_291 ?_
  refine z_cMVW (pc := 292) gX hAX [.int (xs (i + 1)), .int (xs (i + 2)), .int (xs (i + 3)), .int (xs (i + 4)), .int (xs (i + 5))] [] [0, 1, 7] [2, 3, 4, 5, 6, 8] (fun A1 => met_X0_copy l D B0 A1 o ad sa sb tr x sh rw xm sz wd it (xs (i + 1)) (xs (i + 2)) (xs (i + 3)) (xs (i + 4)) (xs (i + 5)) (by first | assumption | omega) (by first | assumption | omega) (by first | assumption | omega) (by first | assumption | omega) (by first | assumption | omega)) q423 q424 q425 q47 q426 (zm 0 rfl) (ci := 0) rfl rfl hd_X0_copy ⟨rfl, rfl⟩ ⟨(Nat.le_of_ble_eq_true rfl), (Nat.le_of_ble_eq_true rfl)⟩ rfl rfl (zpl 9 rfl (by decide +kernel)) rfl rfl (Nat.le_of_ble_eq_true rfl) ⟨by show _ ≤ (603072 : Nat); omega, by show _ ≤ (7262314 : Nat); omega⟩ dL_law_292 ?_
  intro u292 hu292
  obtain ⟨r__292, xm1_292, it1_292, rw1_292⟩ := u292
  have hu292 : (r__292, xm1_292, it1_292) = mCopy xm sz wd it (xs (i + 1)) (xs (i + 2)) (xs (i + 3)) (xs (i + 4)) (xs (i + 5)) ∧ rwR rw1_292 sz wd it1_292 := hu292
  refine z_re [0, 1, 3, 4, 5, 6, 7, 2, 8] [cOb o ad (sa 0) (sb 0) tr (upd x 3 (xm1_292 0)), [(ad 0, .inl (D.1 105, 8, .inr (.inr (.inr (.inr (rF sh 8))))))], mOb om am xm, [(am 0, .inl (D.1 100, 8, .inl sz))], [(am 1, .inl (D.1 100, 8, .inl wd))], [(am 2, .inl (D.1 100, 320, .inl it))], [(am 3, .inl (D.1 100, 40, .inl mv))], slP D sh rw1_292 8, Fr] rfl (zpl 9 rfl (by decide +kernel)) ?_
  refine z_norm [cOb o ad (sa 0) (sb 0) tr (upd x 3 (xm1_292 0)), [(ad 0, .inl (D.1 105, 8, .inr (.inr (.inr (.inr (rF sh 8))))))], mOb om am xm, [(am 0, .inl (D.1 100, 8, .inl sz))], [(am 1, .inl (D.1 100, 8, .inl wd))], [(am 2, .inl (D.1 100, 320, .inl it))], [(am 3, .inl (D.1 100, 40, .inl mv))], slP D sh rw1_292 8, Fr] (cells + 3) (slots + 410) ?_ rfl rfl rfl
  refine z_eq (lv₂ := [(0, .ref b), (1, .ref o), (2, .ref om), (3, .int (nI i))]) (st₂ := [.int r__292]) ?_ rfl rfl
  refine z_aload_n (pc := 295) gX 2 dL_law_295 rfl rfl ?_
  refine z_aload_n (pc := 296) gX 0 dL_law_296 rfl rfl ?_
  refine z_iload_n (pc := 297) gX 3 dL_law_297 rfl rfl ?_
  refine z_iconst (pc := 298) gX 1 dL_law_298 (by decide) ?_
  refine z_iadd (pc := 299) gX dL_law_299 ?_
  refine z_top (nI (i + 1)) (nI_add i 1) ?_
  refine z_sld (pc := 300) gX (j := (i + 1)) hX hbl hbA (by omega) hL dL_law_300 ?_
  refine z_aload_n (pc := 301) gX 0 dL_law_301 rfl rfl ?_
  refine z_iload_n (pc := 302) gX 3 dL_law_302 rfl rfl ?_
  refine z_iconst (pc := 303) gX 2 dL_law_303 (by decide) ?_
  refine z_iadd (pc := 304) gX dL_law_304 ?_
  refine z_top (nI (i + 2)) (nI_add i 2) ?_
  refine z_sld (pc := 305) gX (j := (i + 2)) hX hbl hbA (by omega) hL dL_law_305 ?_
  refine z_aload_n (pc := 306) gX 0 dL_law_306 rfl rfl ?_
  refine z_iload_n (pc := 307) gX 3 dL_law_307 rfl rfl ?_
  refine z_iconst (pc := 308) gX 3 dL_law_308 (by decide) ?_
  refine z_iadd (pc := 309) gX dL_law_309 ?_
  refine z_top (nI (i + 3)) (nI_add i 3) ?_
  refine z_sld (pc := 310) gX (j := (i + 3)) hX hbl hbA (by omega) hL dL_law_310 ?_
  refine z_aload_n (pc := 311) gX 0 dL_law_311 rfl rfl ?_
  refine z_iload_n (pc := 312) gX 3 dL_law_312 rfl rfl ?_
  refine z_iconst (pc := 313) gX 4 dL_law_313 (by decide) ?_
  refine z_iadd (pc := 314) gX dL_law_314 ?_
  refine z_top (nI (i + 4)) (nI_add i 4) ?_
  refine z_sld (pc := 315) gX (j := (i + 4)) hX hbl hbA (by omega) hL dL_law_315 ?_
  refine z_aload_n (pc := 316) gX 0 dL_law_316 rfl rfl ?_
  refine z_iload_n (pc := 317) gX 3 dL_law_317 rfl rfl ?_
  refine z_iconst (pc := 318) gX 5 dL_law_318 (by decide) ?_
  refine z_iadd (pc := 319) gX dL_law_319 ?_
  refine z_top (nI (i + 5)) (nI_add i 5) ?_
  refine z_sld (pc := 320) gX (j := (i + 5)) hX hbl hbA (by omega) hL dL_law_320 ?_
  refine z_cMV (pc := 321) gX hAX [.int (xs (i + 1)), .int (xs (i + 2)), .int (xs (i + 3)), .int (xs (i + 4)), .int (xs (i + 5))] [.int r__292] [2, 3, 4, 5, 6] [0, 1, 7, 8] (fun A1 => met_X4_copy l D B0 A1 om am xm sz wd it mv (xs (i + 1)) (xs (i + 2)) (xs (i + 3)) (xs (i + 4)) (xs (i + 5)) (by first | assumption | omega)) q1476 q1477 q1478 q54 q1479 (zm 2 rfl) (ci := 4) rfl rfl hd_X4_copy ⟨rfl, rfl⟩ ⟨(Nat.le_of_ble_eq_true rfl), (Nat.le_of_ble_eq_true rfl)⟩ rfl rfl (zpl 9 rfl (by decide +kernel)) rfl rfl (Nat.le_of_ble_eq_true rfl) ⟨by show _ ≤ (603072 : Nat); omega, by show _ ≤ (7262314 : Nat); omega⟩ dL_law_321 ?_
  intro u321 hu321
  obtain ⟨r_321, x1_321, it1_321, mv1_321⟩ := u321
  have hu321 : (r_321, x1_321, it1_321) = mCopy xm sz wd it (xs (i + 1)) (xs (i + 2)) (xs (i + 3)) (xs (i + 4)) (xs (i + 5)) := hu321
  refine z_re [5, 6, 0, 1, 2, 3, 4, 7, 8] [cOb o ad (sa 0) (sb 0) tr (upd x 3 (xm1_292 0)), [(ad 0, .inl (D.1 105, 8, .inr (.inr (.inr (.inr (rF sh 8))))))], mOb om am x1_321, [(am 0, .inl (D.1 100, 8, .inl sz))], [(am 1, .inl (D.1 100, 8, .inl wd))], [(am 2, .inl (D.1 100, 320, .inl it1_321))], [(am 3, .inl (D.1 100, 40, .inl mv1_321))], slP D sh rw1_292 8, Fr] rfl (zpl 9 rfl (by decide +kernel)) ?_
  refine z_eq (lv₂ := [(0, .ref b), (1, .ref o), (2, .ref om), (3, .int (nI i))]) (st₂ := [.int r_321, .int r__292]) ?_ rfl rfl
  have he := (hu292.1).trans (hu321).symm
  simp only [Prod.mk.injEq] at he
  obtain ⟨rfl, rfl, rfl⟩ := he
  refine z_icmp_eq (pc := 324) gX 1149 dL_law_324 (by decide) (fun c324 => ?_) (fun c324 => ?_)
  · skip
    exact kk r__292 xm1_292 it1_292 rw1_292 mv1_321 hu292
  · skip
    exact absurd rfl c324
set_option maxHeartbeats 4000000 in
theorem law_drop {pX : Program} {l : Launch} {eX : Env} {sX : State} {mX : MethodId} {argsX : Array Value} {blX : List Frame} {mtX : Method} {cX : Code} {QX : State → Prop} {D : va_G} {A : Nat → Prop} {B0 cells slots b L i : Nat} {xs : Nat → Int32} {Fr : va_W} (gX : zG pX sX mX argsX mtX cX cL_law 4 "StepRidersLaw" (some .boolean) D B0) (hAX : zA sX A B0) (hX : va_X b L xs sX sX.heap) (hbl : b < sX.heap.size) (hbA : ¬ A b) (hL : L ≤ 384) (hi6 : i + 6 ≤ L) (hl : l.stackTraces = false) (hNP : NatNpe) (hce : cells + 1000 ≤ 603072) (hsl : slots + 9000 ≤ 7262314) (o : Nat) (ad : Nat → Nat) (sa : Nat → Nat) (sb : Nat → Nat) (sh : Nat → Nat) (om : Nat) (am : Nat → Nat) (tr : Nat) (x : Nat → Int32) (xm : Nat → Int32) (sz : Nat → Int32) (wd : Nat → Int32) (it : Nat → Int32) (rw : Nat → rT) (hx3 : x 3 = xm 0) (hW : rwR rw sz wd it)
    (kk : ∀ (r__335 : Int32) (xm1_335 : Nat → Int32) (sz1_335 : Nat → Int32) (rw1_335 : Nat → rT), ((r__335, xm1_335, sz1_335) = mDrop xm sz (xs (i + 1)) ∧ rwR rw1_335 sz1_335 wd it) → zJ pX l eX room_1 sX mX argsX blX mtX cX QX 4 (zI D A sX [cOb o ad (sa 0) (sb 0) tr (upd x 3 (xm1_335 0)), [(ad 0, .inl (D.1 105, 8, .inr (.inr (.inr (.inr (rF sh 8))))))], mOb om am xm1_335, [(am 0, .inl (D.1 100, 8, .inl sz1_335))], slP D sh rw1_335 8, Fr]) (cells + 1) (slots + 8) 1149 [(0, .ref b), (1, .ref o), (2, .ref om), (3, .int (nI i))] []) :
    zJ pX l eX room_1 sX mX argsX blX mtX cX QX 4 (zI D A sX [cOb o ad (sa 0) (sb 0) tr x, [(ad 0, .inl (D.1 105, 8, .inr (.inr (.inr (.inr (rF sh 8))))))], mOb om am xm, [(am 0, .inl (D.1 100, 8, .inl sz))], slP D sh rw 8, Fr]) cells slots 329 [(0, .ref b), (1, .ref o), (2, .ref om), (3, .int (nI i))] [] := by
  refine z_aload_n (pc := 329) gX 1 dL_law_329 rfl rfl ?_
  refine z_aload_n (pc := 330) gX 0 dL_law_330 rfl rfl ?_
  refine z_iload_n (pc := 331) gX 3 dL_law_331 rfl rfl ?_
  refine z_iconst (pc := 332) gX 1 dL_law_332 (by decide) ?_
  refine z_iadd (pc := 333) gX dL_law_333 ?_
  refine z_top (nI (i + 1)) (nI_add i 1) ?_
  refine z_sld (pc := 334) gX (j := (i + 1)) hX hbl hbA (by omega) hL dL_law_334 ?_
  refine z_cMVW (pc := 335) gX hAX [.int (xs (i + 1))] [] [0, 1, 4] [2, 3, 5] (fun A1 => met_X0_drop l D B0 A1 o ad sa sb tr x sh rw xm sz wd it (xs (i + 1)) (by first | assumption | omega) (by first | assumption | omega) (by first | assumption | omega)) q445 q446 q447 q47 q448 (zm 0 rfl) (ci := 0) rfl rfl hd_X0_drop ⟨rfl, rfl⟩ ⟨(Nat.le_of_ble_eq_true rfl), (Nat.le_of_ble_eq_true rfl)⟩ rfl rfl rfl rfl rfl (Nat.le_of_ble_eq_true rfl) ⟨by show _ ≤ (603072 : Nat); omega, by show _ ≤ (7262314 : Nat); omega⟩ dL_law_335 ?_
  intro u335 hu335
  obtain ⟨r__335, xm1_335, sz1_335, rw1_335⟩ := u335
  have hu335 : (r__335, xm1_335, sz1_335) = mDrop xm sz (xs (i + 1)) ∧ rwR rw1_335 sz1_335 wd it := hu335
  refine z_re [0, 1, 3, 4, 2, 5] [cOb o ad (sa 0) (sb 0) tr (upd x 3 (xm1_335 0)), [(ad 0, .inl (D.1 105, 8, .inr (.inr (.inr (.inr (rF sh 8))))))], mOb om am xm, [(am 0, .inl (D.1 100, 8, .inl sz))], slP D sh rw1_335 8, Fr] rfl rfl ?_
  refine z_norm [cOb o ad (sa 0) (sb 0) tr (upd x 3 (xm1_335 0)), [(ad 0, .inl (D.1 105, 8, .inr (.inr (.inr (.inr (rF sh 8))))))], mOb om am xm, [(am 0, .inl (D.1 100, 8, .inl sz))], slP D sh rw1_335 8, Fr] (cells + 1) (slots + 8) ?_ rfl rfl rfl
  refine z_eq (lv₂ := [(0, .ref b), (1, .ref o), (2, .ref om), (3, .int (nI i))]) (st₂ := [.int r__335]) ?_ rfl rfl
  refine z_aload_n (pc := 338) gX 2 dL_law_338 rfl rfl ?_
  refine z_aload_n (pc := 339) gX 0 dL_law_339 rfl rfl ?_
  refine z_iload_n (pc := 340) gX 3 dL_law_340 rfl rfl ?_
  refine z_iconst (pc := 341) gX 1 dL_law_341 (by decide) ?_
  refine z_iadd (pc := 342) gX dL_law_342 ?_
  refine z_top (nI (i + 1)) (nI_add i 1) ?_
  refine z_sld (pc := 343) gX (j := (i + 1)) hX hbl hbA (by omega) hL dL_law_343 ?_
  refine z_cMV (pc := 344) gX hAX [.int (xs (i + 1))] [.int r__335] [2, 3] [0, 1, 4, 5] (fun A1 => met_X4_drop l D B0 A1 om am xm sz (xs (i + 1)) ) q1480 q1481 q1482 q54 q1483 (zm 2 rfl) (ci := 4) rfl rfl hd_X4_drop ⟨rfl, rfl⟩ ⟨(Nat.le_of_ble_eq_true rfl), (Nat.le_of_ble_eq_true rfl)⟩ rfl rfl rfl rfl rfl (Nat.le_of_ble_eq_true rfl) ⟨by show _ ≤ (603072 : Nat); omega, by show _ ≤ (7262314 : Nat); omega⟩ dL_law_344 ?_
  intro u344 hu344
  obtain ⟨r_344, x1_344, sz1_344⟩ := u344
  have hu344 : (r_344, x1_344, sz1_344) = mDrop xm sz (xs (i + 1)) := hu344
  refine z_re [2, 3, 0, 1, 4, 5] [cOb o ad (sa 0) (sb 0) tr (upd x 3 (xm1_335 0)), [(ad 0, .inl (D.1 105, 8, .inr (.inr (.inr (.inr (rF sh 8))))))], mOb om am x1_344, [(am 0, .inl (D.1 100, 8, .inl sz1_344))], slP D sh rw1_335 8, Fr] rfl rfl ?_
  refine z_eq (lv₂ := [(0, .ref b), (1, .ref o), (2, .ref om), (3, .int (nI i))]) (st₂ := [.int r_344, .int r__335]) ?_ rfl rfl
  have he := (hu335.1).trans (hu344).symm
  simp only [Prod.mk.injEq] at he
  obtain ⟨rfl, rfl, rfl⟩ := he
  refine z_icmp_eq (pc := 347) gX 1149 dL_law_347 (by decide) (fun c347 => ?_) (fun c347 => ?_)
  · skip
    exact kk r__335 xm1_335 sz1_335 rw1_335 hu335
  · skip
    exact absurd rfl c347
set_option maxHeartbeats 4000000 in
theorem law_feed {pX : Program} {l : Launch} {eX : Env} {sX : State} {mX : MethodId} {argsX : Array Value} {blX : List Frame} {mtX : Method} {cX : Code} {QX : State → Prop} {D : va_G} {A : Nat → Prop} {B0 cells slots b L i : Nat} {xs : Nat → Int32} {Fr : va_W} (gX : zG pX sX mX argsX mtX cX cL_law 4 "StepRidersLaw" (some .boolean) D B0) (hAX : zA sX A B0) (hX : va_X b L xs sX sX.heap) (hbl : b < sX.heap.size) (hbA : ¬ A b) (hL : L ≤ 384) (hi6 : i + 6 ≤ L) (hl : l.stackTraces = false) (hNP : NatNpe) (hce : cells + 1000 ≤ 603072) (hsl : slots + 9000 ≤ 7262314) (o : Nat) (ad : Nat → Nat) (sa : Nat → Nat) (sb : Nat → Nat) (om : Nat) (am : Nat → Nat) (tr : Nat) (x : Nat → Int32) (bt : Nat → Int32) (xm : Nat → Int32) (tp : Nat → Int32) (tt : Nat) (ht : x 0 = nI tt) (ht90 : tt ≤ 90) (htm : xm 1 = nI tt) (hb : ∀ i, i < tt → bt i &&& 255 = tp i)
    (kk : ∀ (r__358 : Int32) (xm1_358 : Nat → Int32) (tp1_358 : Nat → Int32) (bt1_358 : Nat → Int32) (t1_358 : Nat), ((r__358, xm1_358, tp1_358) = mFeed xm tp (xs (i + 1)) ∧ xm1_358 1 = nI t1_358 ∧ t1_358 ≤ 90 ∧ ∀ i, i < t1_358 → bt1_358 i &&& 255 = tp1_358 i) → zJ pX l eX room_1 sX mX argsX blX mtX cX QX 4 (zI D A sX [cOb o ad (sa 0) (sb 0) tr (upd x 0 (nI t1_358)), [(ad 1, .inl (D.1 101, 90, .inl bt1_358))], mOb om am xm1_358, [(am 4, .inl (D.1 100, 90, .inl tp1_358))], Fr]) (cells) (slots) 1149 [(0, .ref b), (1, .ref o), (2, .ref om), (3, .int (nI i))] []) :
    zJ pX l eX room_1 sX mX argsX blX mtX cX QX 4 (zI D A sX [cOb o ad (sa 0) (sb 0) tr x, [(ad 1, .inl (D.1 101, 90, .inl bt))], mOb om am xm, [(am 4, .inl (D.1 100, 90, .inl tp))], Fr]) cells slots 352 [(0, .ref b), (1, .ref o), (2, .ref om), (3, .int (nI i))] [] := by
  refine z_aload_n (pc := 352) gX 1 dL_law_352 rfl rfl ?_
  refine z_aload_n (pc := 353) gX 0 dL_law_353 rfl rfl ?_
  refine z_iload_n (pc := 354) gX 3 dL_law_354 rfl rfl ?_
  refine z_iconst (pc := 355) gX 1 dL_law_355 (by decide) ?_
  refine z_iadd (pc := 356) gX dL_law_356 ?_
  refine z_top (nI (i + 1)) (nI_add i 1) ?_
  refine z_sld (pc := 357) gX (j := (i + 1)) hX hbl hbA (by omega) hL dL_law_357 ?_
  refine z_cMV (pc := 358) gX hAX [.int (xs (i + 1))] [] [0, 1] [2, 3, 4] (fun A1 => met_X0_feed l D B0 A1 o ad sa sb tr x bt xm tp tt (xs (i + 1)) (by first | assumption | omega) (by first | assumption | omega) (by first | assumption | omega) (by first | assumption | omega)) q453 q454 q455 q47 q456 (zm 0 rfl) (ci := 0) rfl rfl hd_X0_feed ⟨rfl, rfl⟩ ⟨(Nat.le_of_ble_eq_true rfl), (Nat.le_of_ble_eq_true rfl)⟩ rfl rfl rfl rfl rfl (Nat.le_of_ble_eq_true rfl) ⟨by show _ ≤ (603072 : Nat); omega, by show _ ≤ (7262314 : Nat); omega⟩ dL_law_358 ?_
  intro u358 hu358
  obtain ⟨r__358, xm1_358, tp1_358, bt1_358, t1_358⟩ := u358
  have hu358 : (r__358, xm1_358, tp1_358) = mFeed xm tp (xs (i + 1)) ∧ xm1_358 1 = nI t1_358 ∧ t1_358 ≤ 90 ∧ ∀ i, i < t1_358 → bt1_358 i &&& 255 = tp1_358 i := hu358
  refine z_re [0, 1, 2, 3, 4] [cOb o ad (sa 0) (sb 0) tr (upd x 0 (nI t1_358)), [(ad 1, .inl (D.1 101, 90, .inl bt1_358))], mOb om am xm, [(am 4, .inl (D.1 100, 90, .inl tp))], Fr] rfl rfl ?_
  refine z_eq (lv₂ := [(0, .ref b), (1, .ref o), (2, .ref om), (3, .int (nI i))]) (st₂ := [.int r__358]) ?_ rfl rfl
  refine z_aload_n (pc := 361) gX 2 dL_law_361 rfl rfl ?_
  refine z_aload_n (pc := 362) gX 0 dL_law_362 rfl rfl ?_
  refine z_iload_n (pc := 363) gX 3 dL_law_363 rfl rfl ?_
  refine z_iconst (pc := 364) gX 1 dL_law_364 (by decide) ?_
  refine z_iadd (pc := 365) gX dL_law_365 ?_
  refine z_top (nI (i + 1)) (nI_add i 1) ?_
  refine z_sld (pc := 366) gX (j := (i + 1)) hX hbl hbA (by omega) hL dL_law_366 ?_
  refine z_cMV (pc := 367) gX hAX [.int (xs (i + 1))] [.int r__358] [2, 3] [0, 1, 4] (fun A1 => met_X4_feed l D B0 A1 om am xm tp tt (xs (i + 1)) (by first | assumption | omega) (by first | assumption | omega)) q1484 q1485 q1486 q54 q1487 (zm 2 rfl) (ci := 4) rfl rfl hd_X4_feed ⟨rfl, rfl⟩ ⟨(Nat.le_of_ble_eq_true rfl), (Nat.le_of_ble_eq_true rfl)⟩ rfl rfl rfl rfl rfl (Nat.le_of_ble_eq_true rfl) ⟨by show _ ≤ (603072 : Nat); omega, by show _ ≤ (7262314 : Nat); omega⟩ dL_law_367 ?_
  intro u367 hu367
  obtain ⟨r_367, x1_367, tp1_367⟩ := u367
  have hu367 : (r_367, x1_367, tp1_367) = mFeed xm tp (xs (i + 1)) := hu367
  refine z_re [2, 3, 0, 1, 4] [cOb o ad (sa 0) (sb 0) tr (upd x 0 (nI t1_358)), [(ad 1, .inl (D.1 101, 90, .inl bt1_358))], mOb om am x1_367, [(am 4, .inl (D.1 100, 90, .inl tp1_367))], Fr] rfl rfl ?_
  refine z_eq (lv₂ := [(0, .ref b), (1, .ref o), (2, .ref om), (3, .int (nI i))]) (st₂ := [.int r_367, .int r__358]) ?_ rfl rfl
  have he := (hu358.1).trans (hu367).symm
  simp only [Prod.mk.injEq] at he
  obtain ⟨rfl, rfl, rfl⟩ := he
  refine z_icmp_eq (pc := 370) gX 1149 dL_law_370 (by decide) (fun c370 => ?_) (fun c370 => ?_)
  · skip
    exact kk r__358 xm1_358 tp1_358 bt1_358 t1_358 hu358
  · skip
    exact absurd rfl c370
set_option maxHeartbeats 4000000 in
theorem law_stair {pX : Program} {l : Launch} {eX : Env} {sX : State} {mX : MethodId} {argsX : Array Value} {blX : List Frame} {mtX : Method} {cX : Code} {QX : State → Prop} {D : va_G} {A : Nat → Prop} {B0 cells slots b L i : Nat} {xs : Nat → Int32} {Fr : va_W} (gX : zG pX sX mX argsX mtX cX cL_law 4 "StepRidersLaw" (some .boolean) D B0) (hAX : zA sX A B0) (hX : va_X b L xs sX sX.heap) (hbl : b < sX.heap.size) (hbA : ¬ A b) (hL : L ≤ 384) (hi6 : i + 6 ≤ L) (hl : l.stackTraces = false) (hNP : NatNpe) (hce : cells + 1000 ≤ 603072) (hsl : slots + 9000 ≤ 7262314) (o : Nat) (ad : Nat → Nat) (sa : Nat → Nat) (sb : Nat → Nat) (om : Nat) (am : Nat → Nat) (tr : Nat) (x : Nat → Int32) (bt : Nat → Int32) (xm : Nat → Int32) (tp : Nat → Int32) (dm : Nat → Int32) (da : Option Nat) (n : Nat) (ra : Nat → Nat) (md : Int32) (wn : Int32) (od : Nat → Int32) (c : Nat → Int32) (T : va_W) (k : Nat) (tt : Nat) (hS : sOK T da n k ra c) (ht : x 0 = nI tt) (hx1 : x 1 = xm 2) (hx2 : x 2 = xm 3) (ht90 : tt ≤ 90) (hb : ∀ i, i < tt → bt i &&& 255 = tp i) (hr : ∀ i, i < tt → mIn (tp i) 0 255 = true) (htym : xm 1 = nI tt)
    (kk : ∀ (r__376 : Int32) (xm1_376 : Nat → Int32) (c1_376 : Nat → Int32) (da1_376 : Option Nat) (n1_376 : Nat) (ra1_376 : Nat → Nat) (md1_376 : Int32) (wn1_376 : Int32) (k1_376 : Nat) (T1_376 : va_W) (x1_380 : Nat → Int32) (d1_380 : Nat → Int32), (mStair tp tt xm c r__376 xm1_376 c1_376 ∧ sOK T1_376 da1_376 n1_376 k1_376 ra1_376 c1_376 ∧ (∀ y ∈ T, y ∈ T1_376) ∧ ((da1_376 = da ∧ n1_376 = n ∧ ra1_376 = ra ∧ k1_376 = k ∧ c1_376 = c ∧ xm1_376 3 = xm 3) ∨ (nW n1_376 c1_376 ∧ 0 < n1_376 ∧ xm1_376 3 = 0))) → (∀ z, z < 5 → x1_380 z = xm1_376 z) → zJ pX l eX room_1 sX mX argsX blX mtX cX QX 4 (zI D A sX [cOb o ad (sa 0) (sb 0) tr (upd (upd (upd x 0 0) 1 (xm1_376 2)) 2 (xm1_376 3)), [(ad 1, .inl (D.1 101, 90, .inl bt))], mOb om am x1_380, [(am 4, .inl (D.1 100, 90, .inl tp))], [(am 5, .inl (D.1 100, 25, .inl c1_376))], [(am 6, .inl (D.1 100, 25, .inl d1_380))], thP D sa ((da1_376, n1_376, ra1_376), (md1_376, wn1_376, od), c1_376), T1_376, Fr]) (cells + 25) (slots + 139) 1149 [(0, .ref b), (1, .ref o), (2, .ref om), (3, .int (nI i))] []) :
    zJ pX l eX room_1 sX mX argsX blX mtX cX QX 4 (zI D A sX [cOb o ad (sa 0) (sb 0) tr x, [(ad 1, .inl (D.1 101, 90, .inl bt))], mOb om am xm, [(am 4, .inl (D.1 100, 90, .inl tp))], [(am 5, .inl (D.1 100, 25, .inl c))], [(am 6, .inl (D.1 100, 25, .inl dm))], thP D sa ((da, n, ra), (md, wn, od), c), T, Fr]) cells slots 375 [(0, .ref b), (1, .ref o), (2, .ref om), (3, .int (nI i))] [] := by
  refine z_aload_n (pc := 375) gX 1 dL_law_375 rfl rfl ?_
  refine z_cMVW (pc := 376) gX hAX [] [] [0, 1, 6, 7] [2, 3, 4, 5, 8] (fun A1 => met_X0_stair l D B0 A1 o ad sa sb tr x da n ra md wn od c T k bt xm tp tt (by first | assumption | omega) (by first | assumption | omega) (by first | assumption | omega) (by first | assumption | omega) (by first | assumption | omega) (by first | assumption | omega) (by first | assumption | omega)) q459 q460 q461 q47 q462 (zm 0 rfl) (ci := 0) rfl rfl hd_X0_stair ⟨rfl, rfl⟩ ⟨(Nat.le_of_ble_eq_true rfl), (Nat.le_of_ble_eq_true rfl)⟩ rfl rfl (zpl 9 rfl (by decide +kernel)) rfl rfl (Nat.le_of_ble_eq_true rfl) ⟨by show _ ≤ (603072 : Nat); omega, by show _ ≤ (7262314 : Nat); omega⟩ dL_law_376 ?_
  intro u376 hu376
  obtain ⟨r__376, xm1_376, c1_376, da1_376, n1_376, ra1_376, md1_376, wn1_376, k1_376, T1_376⟩ := u376
  have hu376 : mStair tp tt xm c r__376 xm1_376 c1_376 ∧ sOK T1_376 da1_376 n1_376 k1_376 ra1_376 c1_376 ∧ (∀ y ∈ T, y ∈ T1_376) ∧ ((da1_376 = da ∧ n1_376 = n ∧ ra1_376 = ra ∧ k1_376 = k ∧ c1_376 = c ∧ xm1_376 3 = xm 3) ∨ (nW n1_376 c1_376 ∧ 0 < n1_376 ∧ xm1_376 3 = 0)) := hu376
  refine z_re [0, 1, 4, 5, 6, 7, 2, 3, 8] [cOb o ad (sa 0) (sb 0) tr (upd (upd (upd x 0 0) 1 (xm1_376 2)) 2 (xm1_376 3)), [(ad 1, .inl (D.1 101, 90, .inl bt))], mOb om am xm, [(am 4, .inl (D.1 100, 90, .inl tp))], [(am 5, .inl (D.1 100, 25, .inl c))], [(am 6, .inl (D.1 100, 25, .inl dm))], thP D sa ((da1_376, n1_376, ra1_376), (md1_376, wn1_376, od), c1_376), T1_376, Fr] rfl (zpl 9 rfl (by decide +kernel)) ?_
  refine z_norm [cOb o ad (sa 0) (sb 0) tr (upd (upd (upd x 0 0) 1 (xm1_376 2)) 2 (xm1_376 3)), [(ad 1, .inl (D.1 101, 90, .inl bt))], mOb om am xm, [(am 4, .inl (D.1 100, 90, .inl tp))], [(am 5, .inl (D.1 100, 25, .inl c))], [(am 6, .inl (D.1 100, 25, .inl dm))], thP D sa ((da1_376, n1_376, ra1_376), (md1_376, wn1_376, od), c1_376), T1_376, Fr] (cells + 25) (slots + 139) ?_ rfl rfl rfl
  refine z_eq (lv₂ := [(0, .ref b), (1, .ref o), (2, .ref om), (3, .int (nI i))]) (st₂ := [.int r__376]) ?_ rfl rfl
  refine z_aload_n (pc := 379) gX 2 dL_law_379 rfl rfl ?_
  refine z_cMV (pc := 380) gX hAX [] [.int r__376] [2, 3, 4, 5] [0, 1, 6, 7, 8] (fun A1 => met_X4_stair l D B0 A1 om am xm tp tt c dm (by first | assumption | omega) (by first | assumption | omega)) q1489 q1490 q1491 q54 q1492 (zm 2 rfl) (ci := 4) rfl rfl hd_X4_stair ⟨rfl, rfl⟩ ⟨(Nat.le_of_ble_eq_true rfl), (Nat.le_of_ble_eq_true rfl)⟩ rfl rfl (zpl 9 rfl (by decide +kernel)) rfl rfl (Nat.le_of_ble_eq_true rfl) ⟨by show _ ≤ (603072 : Nat); omega, by show _ ≤ (7262314 : Nat); omega⟩ dL_law_380 ?_
  intro u380 hu380
  obtain ⟨r__380, x1_380, c1_380, d1_380⟩ := u380
  have hu380 : mStair tp tt xm c r__380 x1_380 c1_380 := hu380
  refine z_re [4, 5, 0, 1, 2, 3, 6, 7, 8] [cOb o ad (sa 0) (sb 0) tr (upd (upd (upd x 0 0) 1 (xm1_376 2)) 2 (xm1_376 3)), [(ad 1, .inl (D.1 101, 90, .inl bt))], mOb om am x1_380, [(am 4, .inl (D.1 100, 90, .inl tp))], [(am 5, .inl (D.1 100, 25, .inl c1_380))], [(am 6, .inl (D.1 100, 25, .inl d1_380))], thP D sa ((da1_376, n1_376, ra1_376), (md1_376, wn1_376, od), c1_376), T1_376, Fr] rfl (zpl 9 rfl (by decide +kernel)) ?_
  refine z_eq (lv₂ := [(0, .ref b), (1, .ref o), (2, .ref om), (3, .int (nI i))]) (st₂ := [.int r__380, .int r__376]) ?_ rfl rfl
  obtain ⟨er, ec, ex⟩ := mStair_same hu376.1 hu380
  subst er
  subst ec
  refine z_icmp_eq (pc := 383) gX 1149 dL_law_383 (by decide) (fun c383 => ?_) (fun c383 => ?_)
  · skip
    exact kk r__376 xm1_376 c1_376 da1_376 n1_376 ra1_376 md1_376 wn1_376 k1_376 T1_376 x1_380 d1_380 hu376 ex
  · skip
    exact absurd rfl c383
set_option maxHeartbeats 4000000 in
theorem law_fault {pX : Program} {l : Launch} {eX : Env} {sX : State} {mX : MethodId} {argsX : Array Value} {blX : List Frame} {mtX : Method} {cX : Code} {QX : State → Prop} {D : va_G} {A : Nat → Prop} {B0 cells slots b L i : Nat} {xs : Nat → Int32} {Fr : va_W} (gX : zG pX sX mX argsX mtX cX cL_law 4 "StepRidersLaw" (some .boolean) D B0) (hAX : zA sX A B0) (hX : va_X b L xs sX sX.heap) (hbl : b < sX.heap.size) (hbA : ¬ A b) (hL : L ≤ 384) (hi6 : i + 6 ≤ L) (hl : l.stackTraces = false) (hNP : NatNpe) (hce : cells + 1000 ≤ 603072) (hsl : slots + 9000 ≤ 7262314) (o : Nat) (ad : Nat → Nat) (sa : Nat → Nat) (sb : Nat → Nat) (om : Nat) (am : Nat → Nat) (tr : Nat) (x : Nat → Int32) (xm : Nat → Int32) (hx1 : x 1 = xm 2)
    (kk : zJ pX l eX room_1 sX mX argsX blX mtX cX QX 4 (zI D A sX [cOb o ad (sa 0) (sb 0) tr x, mOb om am xm, Fr]) (cells) (slots) 1149 [(0, .ref b), (1, .ref o), (2, .ref om), (3, .int (nI i))] []) :
    zJ pX l eX room_1 sX mX argsX blX mtX cX QX 4 (zI D A sX [cOb o ad (sa 0) (sb 0) tr x, mOb om am xm, Fr]) cells slots 388 [(0, .ref b), (1, .ref o), (2, .ref om), (3, .int (nI i))] [] := by
  refine z_aload_n (pc := 388) gX 1 dL_law_388 rfl rfl ?_
  refine z_cOV (pc := 389) gX (zI_ok gX hAX) [] [] [0] (met_X0_fault l D B0 o ad sa sb tr x ) q821 q822 q823 q47 q824 (zm 0 rfl) (ci := 0) rfl rfl hd_X0_fault ⟨rfl, rfl⟩ ⟨(Nat.le_of_ble_eq_true rfl), (Nat.le_of_ble_eq_true rfl)⟩ rfl rfl rfl (Nat.le_of_ble_eq_true rfl) ⟨by show _ ≤ (603072 : Nat); omega, by show _ ≤ (7262314 : Nat); omega⟩ dL_law_389 ?_
  intro _ hu389
  refine z_eq (lv₂ := [(0, .ref b), (1, .ref o), (2, .ref om), (3, .int (nI i))]) (st₂ := [.int (x 1)]) ?_ rfl rfl
  refine z_aload_n (pc := 392) gX 2 dL_law_392 rfl rfl ?_
  refine z_cOV (pc := 393) gX (zI_ok gX hAX) [] [.int (x 1)] [1] (met_X4_fault l D B0 om am xm ) q1520 q1521 q1522 q54 q1523 (zm 1 rfl) (ci := 4) rfl rfl hd_X4_fault ⟨rfl, rfl⟩ ⟨(Nat.le_of_ble_eq_true rfl), (Nat.le_of_ble_eq_true rfl)⟩ rfl rfl rfl (Nat.le_of_ble_eq_true rfl) ⟨by show _ ≤ (603072 : Nat); omega, by show _ ≤ (7262314 : Nat); omega⟩ dL_law_393 ?_
  intro _ hu393
  refine z_eq (lv₂ := [(0, .ref b), (1, .ref o), (2, .ref om), (3, .int (nI i))]) (st₂ := [.int (xm 2), .int (x 1)]) ?_ rfl rfl
  refine z_icmp_eq (pc := 396) gX 1149 dL_law_396 (by decide) (fun c396 => ?_) (fun c396 => ?_)
  · skip
    exact kk
  · skip
    exact absurd hx1 c396
set_option maxHeartbeats 4000000 in
theorem law_ticks {pX : Program} {l : Launch} {eX : Env} {sX : State} {mX : MethodId} {argsX : Array Value} {blX : List Frame} {mtX : Method} {cX : Code} {QX : State → Prop} {D : va_G} {A : Nat → Prop} {B0 cells slots b L i : Nat} {xs : Nat → Int32} {Fr : va_W} (gX : zG pX sX mX argsX mtX cX cL_law 4 "StepRidersLaw" (some .boolean) D B0) (hAX : zA sX A B0) (hX : va_X b L xs sX sX.heap) (hbl : b < sX.heap.size) (hbA : ¬ A b) (hL : L ≤ 384) (hi6 : i + 6 ≤ L) (hl : l.stackTraces = false) (hNP : NatNpe) (hce : cells + 1000 ≤ 603072) (hsl : slots + 9000 ≤ 7262314) (o : Nat) (ad : Nat → Nat) (sa : Nat → Nat) (sb : Nat → Nat) (om : Nat) (am : Nat → Nat) (tr : Nat) (x : Nat → Int32) (pf : pF) (xm : Nat → Int32) (pa : Nat → Int32) (wm : Nat → Int32) (da : Option Nat) (n : Nat) (ra : Nat → Nat) (md : Int32) (wn : Int32) (od : Nat → Int32) (c : Nat → Int32) (T : va_W) (k : Nat) (kn : Nat) (hS : sOK T da n k ra c) (hx : x 2 = nI kn) (hA : aOK n k ra c xm kn pf pa) (hnm : c 17 = nI n) (hn7m : n ≤ 7) (hkm : c 16 = nI k) (hk12m : k ≤ 12) (hknm : xm 3 = nI kn) (hkn24m : kn ≤ 24)
    (kk : ∀ (r__407 : Int32) (xm1_407 : Nat → Int32) (pa1_407 : Nat → Int32) (c1_407 : Nat → Int32) (kn1_407 : Nat) (pf1_407 : pF) (wn1_407 : Int32) (od1_407 : Nat → Int32) (wn1_416 : Nat → Int32), ((r__407, xm1_407, pa1_407, c1_407) = mTicks n k kn xm pa c (xs (i + 1)) ∧ sOK T da n k ra c1_407 ∧ aOK n k ra c1_407 xm1_407 kn1_407 pf1_407 pa1_407) → zJ pX l eX room_1 sX mX argsX blX mtX cX QX 4 (zI D A sX [cOb o ad (sa 0) (sb 0) tr (upd x 2 (nI kn1_407)), [(ad 2, .inl (D.1 106, 24, .inr (.inr (.inr (.inr (pRef pf1_407))))))], mOb om am xm1_407, [(am 5, .inl (D.1 100, 25, .inl c1_407))], [(am 9, .inl (D.1 100, 384, .inl pa1_407))], [(am 11, .inl (D.1 100, 25, .inl wn1_416))], thP D sa ((da, n, ra), (md, wn1_407, od1_407), c1_407), pstP D pf1_407 24, T, Fr]) (cells + 144) (slots + 1008) 1149 [(0, .ref b), (1, .ref o), (2, .ref om), (3, .int (nI i))] []) :
    zJ pX l eX room_1 sX mX argsX blX mtX cX QX 4 (zI D A sX [cOb o ad (sa 0) (sb 0) tr x, [(ad 2, .inl (D.1 106, 24, .inr (.inr (.inr (.inr (pRef pf))))))], mOb om am xm, [(am 5, .inl (D.1 100, 25, .inl c))], [(am 9, .inl (D.1 100, 384, .inl pa))], [(am 11, .inl (D.1 100, 25, .inl wm))], thP D sa ((da, n, ra), (md, wn, od), c), pstP D pf 24, T, Fr]) cells slots 401 [(0, .ref b), (1, .ref o), (2, .ref om), (3, .int (nI i))] [] := by
  refine z_aload_n (pc := 401) gX 1 dL_law_401 rfl rfl ?_
  refine z_aload_n (pc := 402) gX 0 dL_law_402 rfl rfl ?_
  refine z_iload_n (pc := 403) gX 3 dL_law_403 rfl rfl ?_
  refine z_iconst (pc := 404) gX 1 dL_law_404 (by decide) ?_
  refine z_iadd (pc := 405) gX dL_law_405 ?_
  refine z_top (nI (i + 1)) (nI_add i 1) ?_
  refine z_sld (pc := 406) gX (j := (i + 1)) hX hbl hbA (by omega) hL dL_law_406 ?_
  refine z_cMV (pc := 407) gX hAX [.int (xs (i + 1))] [] [0, 1, 6, 7, 8] [2, 3, 4, 5, 9] (fun A1 => met_X0_ticks l D B0 A1 o ad sa sb tr x da n ra md wn od c T k xm pa pf kn (xs (i + 1)) (by first | assumption | omega) (by first | assumption | omega) (by first | assumption | omega)) q825 q826 q827 q47 q828 (zm 0 rfl) (ci := 0) rfl rfl hd_X0_ticks ⟨rfl, rfl⟩ ⟨(Nat.le_of_ble_eq_true rfl), (Nat.le_of_ble_eq_true rfl)⟩ rfl rfl (zpl 10 rfl (by decide +kernel)) rfl rfl (Nat.le_of_ble_eq_true rfl) ⟨by show _ ≤ (603072 : Nat); omega, by show _ ≤ (7262314 : Nat); omega⟩ dL_law_407 ?_
  intro u407 hu407
  obtain ⟨r__407, xm1_407, pa1_407, c1_407, kn1_407, pf1_407, wn1_407, od1_407⟩ := u407
  have hu407 : (r__407, xm1_407, pa1_407, c1_407) = mTicks n k kn xm pa c (xs (i + 1)) ∧ sOK T da n k ra c1_407 ∧ aOK n k ra c1_407 xm1_407 kn1_407 pf1_407 pa1_407 := hu407
  refine z_re [0, 1, 5, 6, 7, 8, 2, 3, 4, 9] [cOb o ad (sa 0) (sb 0) tr (upd x 2 (nI kn1_407)), [(ad 2, .inl (D.1 106, 24, .inr (.inr (.inr (.inr (pRef pf1_407))))))], mOb om am xm, [(am 5, .inl (D.1 100, 25, .inl c))], [(am 9, .inl (D.1 100, 384, .inl pa))], [(am 11, .inl (D.1 100, 25, .inl wm))], thP D sa ((da, n, ra), (md, wn1_407, od1_407), c1_407), pstP D pf1_407 24, T, Fr] rfl (zpl 10 rfl (by decide +kernel)) ?_
  refine z_norm [cOb o ad (sa 0) (sb 0) tr (upd x 2 (nI kn1_407)), [(ad 2, .inl (D.1 106, 24, .inr (.inr (.inr (.inr (pRef pf1_407))))))], mOb om am xm, [(am 5, .inl (D.1 100, 25, .inl c))], [(am 9, .inl (D.1 100, 384, .inl pa))], [(am 11, .inl (D.1 100, 25, .inl wm))], thP D sa ((da, n, ra), (md, wn1_407, od1_407), c1_407), pstP D pf1_407 24, T, Fr] (cells + 144) (slots + 1008) ?_ rfl rfl rfl
  refine z_eq (lv₂ := [(0, .ref b), (1, .ref o), (2, .ref om), (3, .int (nI i))]) (st₂ := [.int r__407]) ?_ rfl rfl
  refine z_aload_n (pc := 410) gX 2 dL_law_410 rfl rfl ?_
  refine z_aload_n (pc := 411) gX 0 dL_law_411 rfl rfl ?_
  refine z_iload_n (pc := 412) gX 3 dL_law_412 rfl rfl ?_
  refine z_iconst (pc := 413) gX 1 dL_law_413 (by decide) ?_
  refine z_iadd (pc := 414) gX dL_law_414 ?_
  refine z_top (nI (i + 1)) (nI_add i 1) ?_
  refine z_sld (pc := 415) gX (j := (i + 1)) hX hbl hbA (by omega) hL dL_law_415 ?_
  refine z_cMV (pc := 416) gX hAX [.int (xs (i + 1))] [.int r__407] [2, 3, 4, 5] [0, 1, 6, 7, 8, 9] (fun A1 => met_X4_ticks l D B0 A1 om am xm c pa wm n k kn (xs (i + 1)) (by first | assumption | omega) (by first | assumption | omega) (by first | assumption | omega) (by first | assumption | omega) (by first | assumption | omega) (by first | assumption | omega)) q1524 q1525 q1526 q54 q1527 (zm 2 rfl) (ci := 4) rfl rfl hd_X4_ticks ⟨rfl, rfl⟩ ⟨(Nat.le_of_ble_eq_true rfl), (Nat.le_of_ble_eq_true rfl)⟩ rfl rfl (zpl 10 rfl (by decide +kernel)) rfl rfl (Nat.le_of_ble_eq_true rfl) ⟨by show _ ≤ (603072 : Nat); omega, by show _ ≤ (7262314 : Nat); omega⟩ dL_law_416 ?_
  intro u416 hu416
  obtain ⟨r__416, x1_416, pa1_416, c1_416, wn1_416⟩ := u416
  have hu416 : (r__416, x1_416, pa1_416, c1_416) = mTicks n k kn xm pa c (xs (i + 1)) := hu416
  refine z_re [4, 5, 0, 1, 2, 3, 6, 7, 8, 9] [cOb o ad (sa 0) (sb 0) tr (upd x 2 (nI kn1_407)), [(ad 2, .inl (D.1 106, 24, .inr (.inr (.inr (.inr (pRef pf1_407))))))], mOb om am x1_416, [(am 5, .inl (D.1 100, 25, .inl c1_416))], [(am 9, .inl (D.1 100, 384, .inl pa1_416))], [(am 11, .inl (D.1 100, 25, .inl wn1_416))], thP D sa ((da, n, ra), (md, wn1_407, od1_407), c1_407), pstP D pf1_407 24, T, Fr] rfl (zpl 10 rfl (by decide +kernel)) ?_
  refine z_eq (lv₂ := [(0, .ref b), (1, .ref o), (2, .ref om), (3, .int (nI i))]) (st₂ := [.int r__416, .int r__407]) ?_ rfl rfl
  have he := (hu407.1).trans (hu416).symm
  simp only [Prod.mk.injEq] at he
  obtain ⟨rfl, rfl, rfl, rfl⟩ := he
  refine z_icmp_eq (pc := 419) gX 1149 dL_law_419 (by decide) (fun c419 => ?_) (fun c419 => ?_)
  · skip
    exact kk r__407 xm1_407 pa1_407 c1_407 kn1_407 pf1_407 wn1_407 od1_407 wn1_416 hu407
  · skip
    exact absurd rfl c419
set_option maxHeartbeats 4000000 in
theorem law_speed {pX : Program} {l : Launch} {eX : Env} {sX : State} {mX : MethodId} {argsX : Array Value} {blX : List Frame} {mtX : Method} {cX : Code} {QX : State → Prop} {D : va_G} {A : Nat → Prop} {B0 cells slots b L i : Nat} {xs : Nat → Int32} {Fr : va_W} (gX : zG pX sX mX argsX mtX cX cL_law 4 "StepRidersLaw" (some .boolean) D B0) (hAX : zA sX A B0) (hX : va_X b L xs sX sX.heap) (hbl : b < sX.heap.size) (hbA : ¬ A b) (hL : L ≤ 384) (hi6 : i + 6 ≤ L) (hl : l.stackTraces = false) (hNP : NatNpe) (hce : cells + 1000 ≤ 603072) (hsl : slots + 9000 ≤ 7262314) (o : Nat) (ad : Nat → Nat) (sa : Nat → Nat) (sb : Nat → Nat) (om : Nat) (am : Nat → Nat) (tr : Nat) (x : Nat → Int32) (pf : pF) (xm : Nat → Int32) (pa : Nat → Int32) (da : Option Nat) (n : Nat) (ra : Nat → Nat) (md : Int32) (wn : Int32) (od : Nat → Int32) (c : Nat → Int32) (T : va_W) (k : Nat) (kn : Nat) (hS : sOK T da n k ra c) (hx : x 2 = nI kn) (hA : aOK n k ra c xm kn pf pa) (hknm : xm 3 = nI kn) (hkn24m : kn ≤ 24)
    (kk : ∀ (r__430 : Int32) (xm1_430 : Nat → Int32) (pa1_430 : Nat → Int32) (c1_430 : Nat → Int32) (kn1_430 : Nat) (pf1_430 : pF) (wn1_430 : Int32) (od1_430 : Nat → Int32), ((r__430, xm1_430, pa1_430, c1_430) = mSpeed kn xm pa c (xs (i + 1)) ∧ sOK T da n k ra c1_430 ∧ aOK n k ra c1_430 xm1_430 kn1_430 pf1_430 pa1_430) → zJ pX l eX room_1 sX mX argsX blX mtX cX QX 4 (zI D A sX [cOb o ad (sa 0) (sb 0) tr (upd x 2 (nI kn1_430)), [(ad 2, .inl (D.1 106, 24, .inr (.inr (.inr (.inr (pRef pf1_430))))))], mOb om am xm1_430, [(am 5, .inl (D.1 100, 25, .inl c1_430))], [(am 9, .inl (D.1 100, 384, .inl pa1_430))], thP D sa ((da, n, ra), (md, wn1_430, od1_430), c1_430), pstP D pf1_430 24, T, Fr]) (cells + 6) (slots + 42) 1149 [(0, .ref b), (1, .ref o), (2, .ref om), (3, .int (nI i))] []) :
    zJ pX l eX room_1 sX mX argsX blX mtX cX QX 4 (zI D A sX [cOb o ad (sa 0) (sb 0) tr x, [(ad 2, .inl (D.1 106, 24, .inr (.inr (.inr (.inr (pRef pf))))))], mOb om am xm, [(am 5, .inl (D.1 100, 25, .inl c))], [(am 9, .inl (D.1 100, 384, .inl pa))], thP D sa ((da, n, ra), (md, wn, od), c), pstP D pf 24, T, Fr]) cells slots 424 [(0, .ref b), (1, .ref o), (2, .ref om), (3, .int (nI i))] [] := by
  refine z_aload_n (pc := 424) gX 1 dL_law_424 rfl rfl ?_
  refine z_aload_n (pc := 425) gX 0 dL_law_425 rfl rfl ?_
  refine z_iload_n (pc := 426) gX 3 dL_law_426 rfl rfl ?_
  refine z_iconst (pc := 427) gX 1 dL_law_427 (by decide) ?_
  refine z_iadd (pc := 428) gX dL_law_428 ?_
  refine z_top (nI (i + 1)) (nI_add i 1) ?_
  refine z_sld (pc := 429) gX (j := (i + 1)) hX hbl hbA (by omega) hL dL_law_429 ?_
  refine z_cMV (pc := 430) gX hAX [.int (xs (i + 1))] [] [0, 1, 5, 6, 7] [2, 3, 4, 8] (fun A1 => met_X0_speed l D B0 A1 o ad sa sb tr x da n ra md wn od c T k xm pa pf kn (xs (i + 1)) (by first | assumption | omega) (by first | assumption | omega) (by first | assumption | omega)) q939 q940 q941 q47 q942 (zm 0 rfl) (ci := 0) rfl rfl hd_X0_speed ⟨rfl, rfl⟩ ⟨(Nat.le_of_ble_eq_true rfl), (Nat.le_of_ble_eq_true rfl)⟩ rfl rfl (zpl 9 rfl (by decide +kernel)) rfl rfl (Nat.le_of_ble_eq_true rfl) ⟨by show _ ≤ (603072 : Nat); omega, by show _ ≤ (7262314 : Nat); omega⟩ dL_law_430 ?_
  intro u430 hu430
  obtain ⟨r__430, xm1_430, pa1_430, c1_430, kn1_430, pf1_430, wn1_430, od1_430⟩ := u430
  have hu430 : (r__430, xm1_430, pa1_430, c1_430) = mSpeed kn xm pa c (xs (i + 1)) ∧ sOK T da n k ra c1_430 ∧ aOK n k ra c1_430 xm1_430 kn1_430 pf1_430 pa1_430 := hu430
  refine z_re [0, 1, 5, 6, 7, 2, 3, 4, 8] [cOb o ad (sa 0) (sb 0) tr (upd x 2 (nI kn1_430)), [(ad 2, .inl (D.1 106, 24, .inr (.inr (.inr (.inr (pRef pf1_430))))))], mOb om am xm, [(am 5, .inl (D.1 100, 25, .inl c))], [(am 9, .inl (D.1 100, 384, .inl pa))], thP D sa ((da, n, ra), (md, wn1_430, od1_430), c1_430), pstP D pf1_430 24, T, Fr] rfl (zpl 9 rfl (by decide +kernel)) ?_
  refine z_norm [cOb o ad (sa 0) (sb 0) tr (upd x 2 (nI kn1_430)), [(ad 2, .inl (D.1 106, 24, .inr (.inr (.inr (.inr (pRef pf1_430))))))], mOb om am xm, [(am 5, .inl (D.1 100, 25, .inl c))], [(am 9, .inl (D.1 100, 384, .inl pa))], thP D sa ((da, n, ra), (md, wn1_430, od1_430), c1_430), pstP D pf1_430 24, T, Fr] (cells + 6) (slots + 42) ?_ rfl rfl rfl
  refine z_eq (lv₂ := [(0, .ref b), (1, .ref o), (2, .ref om), (3, .int (nI i))]) (st₂ := [.int r__430]) ?_ rfl rfl
  refine z_aload_n (pc := 433) gX 2 dL_law_433 rfl rfl ?_
  refine z_aload_n (pc := 434) gX 0 dL_law_434 rfl rfl ?_
  refine z_iload_n (pc := 435) gX 3 dL_law_435 rfl rfl ?_
  refine z_iconst (pc := 436) gX 1 dL_law_436 (by decide) ?_
  refine z_iadd (pc := 437) gX dL_law_437 ?_
  refine z_top (nI (i + 1)) (nI_add i 1) ?_
  refine z_sld (pc := 438) gX (j := (i + 1)) hX hbl hbA (by omega) hL dL_law_438 ?_
  refine z_cMV (pc := 439) gX hAX [.int (xs (i + 1))] [.int r__430] [2, 3, 4] [0, 1, 5, 6, 7, 8] (fun A1 => met_X4_speed l D B0 A1 om am xm c pa kn (xs (i + 1)) (by first | assumption | omega) (by first | assumption | omega)) q1556 q1557 q1558 q54 q1559 (zm 2 rfl) (ci := 4) rfl rfl hd_X4_speed ⟨rfl, rfl⟩ ⟨(Nat.le_of_ble_eq_true rfl), (Nat.le_of_ble_eq_true rfl)⟩ rfl rfl (zpl 9 rfl (by decide +kernel)) rfl rfl (Nat.le_of_ble_eq_true rfl) ⟨by show _ ≤ (603072 : Nat); omega, by show _ ≤ (7262314 : Nat); omega⟩ dL_law_439 ?_
  intro u439 hu439
  obtain ⟨r__439, x1_439, pa1_439, c1_439⟩ := u439
  have hu439 : (r__439, x1_439, pa1_439, c1_439) = mSpeed kn xm pa c (xs (i + 1)) := hu439
  refine z_re [3, 4, 0, 1, 2, 5, 6, 7, 8] [cOb o ad (sa 0) (sb 0) tr (upd x 2 (nI kn1_430)), [(ad 2, .inl (D.1 106, 24, .inr (.inr (.inr (.inr (pRef pf1_430))))))], mOb om am x1_439, [(am 5, .inl (D.1 100, 25, .inl c1_439))], [(am 9, .inl (D.1 100, 384, .inl pa1_439))], thP D sa ((da, n, ra), (md, wn1_430, od1_430), c1_430), pstP D pf1_430 24, T, Fr] rfl (zpl 9 rfl (by decide +kernel)) ?_
  refine z_eq (lv₂ := [(0, .ref b), (1, .ref o), (2, .ref om), (3, .int (nI i))]) (st₂ := [.int r__439, .int r__430]) ?_ rfl rfl
  have he := (hu430.1).trans (hu439).symm
  simp only [Prod.mk.injEq] at he
  obtain ⟨rfl, rfl, rfl, rfl⟩ := he
  refine z_icmp_eq (pc := 442) gX 1149 dL_law_442 (by decide) (fun c442 => ?_) (fun c442 => ?_)
  · skip
    exact kk r__430 xm1_430 pa1_430 c1_430 kn1_430 pf1_430 wn1_430 od1_430 hu430
  · skip
    exact absurd rfl c442
set_option maxHeartbeats 4000000 in
theorem law_cross {pX : Program} {l : Launch} {eX : Env} {sX : State} {mX : MethodId} {argsX : Array Value} {blX : List Frame} {mtX : Method} {cX : Code} {QX : State → Prop} {D : va_G} {A : Nat → Prop} {B0 cells slots b L i : Nat} {xs : Nat → Int32} {Fr : va_W} (gX : zG pX sX mX argsX mtX cX cL_law 4 "StepRidersLaw" (some .boolean) D B0) (hAX : zA sX A B0) (hX : va_X b L xs sX sX.heap) (hbl : b < sX.heap.size) (hbA : ¬ A b) (hL : L ≤ 384) (hi6 : i + 6 ≤ L) (hl : l.stackTraces = false) (hNP : NatNpe) (hce : cells + 1000 ≤ 603072) (hsl : slots + 9000 ≤ 7262314) (o : Nat) (ad : Nat → Nat) (sa : Nat → Nat) (sb : Nat → Nat) (om : Nat) (am : Nat → Nat) (tr : Nat) (x : Nat → Int32) (pf : pF) (xm : Nat → Int32) (pa : Nat → Int32) (da : Option Nat) (n : Nat) (ra : Nat → Nat) (md : Int32) (wn : Int32) (od : Nat → Int32) (c : Nat → Int32) (T : va_W) (k : Nat) (kn : Nat) (hS : sOK T da n k ra c) (hx : x 2 = nI kn) (hA : aOK n k ra c xm kn pf pa) (hnm : c 17 = nI n) (hn7m : n ≤ 7) (hknm : xm 3 = nI kn) (hkn24m : kn ≤ 24)
    (kk : ∀ (r__453 : Int32) (xm1_453 : Nat → Int32) (pa1_453 : Nat → Int32) (c1_453 : Nat → Int32) (kn1_453 : Nat) (pf1_453 : pF) (wn1_453 : Int32) (od1_453 : Nat → Int32), ((r__453, xm1_453, pa1_453, c1_453) = mCross n kn xm pa c (xs (i + 1)) ∧ sOK T da n k ra c1_453 ∧ aOK n k ra c1_453 xm1_453 kn1_453 pf1_453 pa1_453) → zJ pX l eX room_1 sX mX argsX blX mtX cX QX 4 (zI D A sX [cOb o ad (sa 0) (sb 0) tr (upd x 2 (nI kn1_453)), [(ad 2, .inl (D.1 106, 24, .inr (.inr (.inr (.inr (pRef pf1_453))))))], mOb om am xm1_453, [(am 5, .inl (D.1 100, 25, .inl c1_453))], [(am 9, .inl (D.1 100, 384, .inl pa1_453))], thP D sa ((da, n, ra), (md, wn1_453, od1_453), c1_453), pstP D pf1_453 24, T, Fr]) (cells + 6) (slots + 42) 1149 [(0, .ref b), (1, .ref o), (2, .ref om), (3, .int (nI i))] []) :
    zJ pX l eX room_1 sX mX argsX blX mtX cX QX 4 (zI D A sX [cOb o ad (sa 0) (sb 0) tr x, [(ad 2, .inl (D.1 106, 24, .inr (.inr (.inr (.inr (pRef pf))))))], mOb om am xm, [(am 5, .inl (D.1 100, 25, .inl c))], [(am 9, .inl (D.1 100, 384, .inl pa))], thP D sa ((da, n, ra), (md, wn, od), c), pstP D pf 24, T, Fr]) cells slots 447 [(0, .ref b), (1, .ref o), (2, .ref om), (3, .int (nI i))] [] := by
  refine z_aload_n (pc := 447) gX 1 dL_law_447 rfl rfl ?_
  refine z_aload_n (pc := 448) gX 0 dL_law_448 rfl rfl ?_
  refine z_iload_n (pc := 449) gX 3 dL_law_449 rfl rfl ?_
  refine z_iconst (pc := 450) gX 1 dL_law_450 (by decide) ?_
  refine z_iadd (pc := 451) gX dL_law_451 ?_
  refine z_top (nI (i + 1)) (nI_add i 1) ?_
  refine z_sld (pc := 452) gX (j := (i + 1)) hX hbl hbA (by omega) hL dL_law_452 ?_
  refine z_cMV (pc := 453) gX hAX [.int (xs (i + 1))] [] [0, 1, 5, 6, 7] [2, 3, 4, 8] (fun A1 => met_X0_cross l D B0 A1 o ad sa sb tr x da n ra md wn od c T k xm pa pf kn (xs (i + 1)) (by first | assumption | omega) (by first | assumption | omega) (by first | assumption | omega)) q943 q944 q945 q47 q946 (zm 0 rfl) (ci := 0) rfl rfl hd_X0_cross ⟨rfl, rfl⟩ ⟨(Nat.le_of_ble_eq_true rfl), (Nat.le_of_ble_eq_true rfl)⟩ rfl rfl (zpl 9 rfl (by decide +kernel)) rfl rfl (Nat.le_of_ble_eq_true rfl) ⟨by show _ ≤ (603072 : Nat); omega, by show _ ≤ (7262314 : Nat); omega⟩ dL_law_453 ?_
  intro u453 hu453
  obtain ⟨r__453, xm1_453, pa1_453, c1_453, kn1_453, pf1_453, wn1_453, od1_453⟩ := u453
  have hu453 : (r__453, xm1_453, pa1_453, c1_453) = mCross n kn xm pa c (xs (i + 1)) ∧ sOK T da n k ra c1_453 ∧ aOK n k ra c1_453 xm1_453 kn1_453 pf1_453 pa1_453 := hu453
  refine z_re [0, 1, 5, 6, 7, 2, 3, 4, 8] [cOb o ad (sa 0) (sb 0) tr (upd x 2 (nI kn1_453)), [(ad 2, .inl (D.1 106, 24, .inr (.inr (.inr (.inr (pRef pf1_453))))))], mOb om am xm, [(am 5, .inl (D.1 100, 25, .inl c))], [(am 9, .inl (D.1 100, 384, .inl pa))], thP D sa ((da, n, ra), (md, wn1_453, od1_453), c1_453), pstP D pf1_453 24, T, Fr] rfl (zpl 9 rfl (by decide +kernel)) ?_
  refine z_norm [cOb o ad (sa 0) (sb 0) tr (upd x 2 (nI kn1_453)), [(ad 2, .inl (D.1 106, 24, .inr (.inr (.inr (.inr (pRef pf1_453))))))], mOb om am xm, [(am 5, .inl (D.1 100, 25, .inl c))], [(am 9, .inl (D.1 100, 384, .inl pa))], thP D sa ((da, n, ra), (md, wn1_453, od1_453), c1_453), pstP D pf1_453 24, T, Fr] (cells + 6) (slots + 42) ?_ rfl rfl rfl
  refine z_eq (lv₂ := [(0, .ref b), (1, .ref o), (2, .ref om), (3, .int (nI i))]) (st₂ := [.int r__453]) ?_ rfl rfl
  refine z_aload_n (pc := 456) gX 2 dL_law_456 rfl rfl ?_
  refine z_aload_n (pc := 457) gX 0 dL_law_457 rfl rfl ?_
  refine z_iload_n (pc := 458) gX 3 dL_law_458 rfl rfl ?_
  refine z_iconst (pc := 459) gX 1 dL_law_459 (by decide) ?_
  refine z_iadd (pc := 460) gX dL_law_460 ?_
  refine z_top (nI (i + 1)) (nI_add i 1) ?_
  refine z_sld (pc := 461) gX (j := (i + 1)) hX hbl hbA (by omega) hL dL_law_461 ?_
  refine z_cMV (pc := 462) gX hAX [.int (xs (i + 1))] [.int r__453] [2, 3, 4] [0, 1, 5, 6, 7, 8] (fun A1 => met_X4_cross l D B0 A1 om am xm c pa n kn (xs (i + 1)) (by first | assumption | omega) (by first | assumption | omega) (by first | assumption | omega) (by first | assumption | omega)) q1560 q1561 q1562 q54 q1563 (zm 2 rfl) (ci := 4) rfl rfl hd_X4_cross ⟨rfl, rfl⟩ ⟨(Nat.le_of_ble_eq_true rfl), (Nat.le_of_ble_eq_true rfl)⟩ rfl rfl (zpl 9 rfl (by decide +kernel)) rfl rfl (Nat.le_of_ble_eq_true rfl) ⟨by show _ ≤ (603072 : Nat); omega, by show _ ≤ (7262314 : Nat); omega⟩ dL_law_462 ?_
  intro u462 hu462
  obtain ⟨r__462, x1_462, pa1_462, c1_462⟩ := u462
  have hu462 : (r__462, x1_462, pa1_462, c1_462) = mCross n kn xm pa c (xs (i + 1)) := hu462
  refine z_re [3, 4, 0, 1, 2, 5, 6, 7, 8] [cOb o ad (sa 0) (sb 0) tr (upd x 2 (nI kn1_453)), [(ad 2, .inl (D.1 106, 24, .inr (.inr (.inr (.inr (pRef pf1_453))))))], mOb om am x1_462, [(am 5, .inl (D.1 100, 25, .inl c1_462))], [(am 9, .inl (D.1 100, 384, .inl pa1_462))], thP D sa ((da, n, ra), (md, wn1_453, od1_453), c1_453), pstP D pf1_453 24, T, Fr] rfl (zpl 9 rfl (by decide +kernel)) ?_
  refine z_eq (lv₂ := [(0, .ref b), (1, .ref o), (2, .ref om), (3, .int (nI i))]) (st₂ := [.int r__462, .int r__453]) ?_ rfl rfl
  have he := (hu453.1).trans (hu462).symm
  simp only [Prod.mk.injEq] at he
  obtain ⟨rfl, rfl, rfl, rfl⟩ := he
  refine z_icmp_eq (pc := 465) gX 1149 dL_law_465 (by decide) (fun c465 => ?_) (fun c465 => ?_)
  · skip
    exact kk r__453 xm1_453 pa1_453 c1_453 kn1_453 pf1_453 wn1_453 od1_453 hu453
  · skip
    exact absurd rfl c465
set_option maxHeartbeats 4000000 in
theorem law_take {pX : Program} {l : Launch} {eX : Env} {sX : State} {mX : MethodId} {argsX : Array Value} {blX : List Frame} {mtX : Method} {cX : Code} {QX : State → Prop} {D : va_G} {A : Nat → Prop} {B0 cells slots b L i : Nat} {xs : Nat → Int32} {Fr : va_W} (gX : zG pX sX mX argsX mtX cX cL_law 4 "StepRidersLaw" (some .boolean) D B0) (hAX : zA sX A B0) (hX : va_X b L xs sX sX.heap) (hbl : b < sX.heap.size) (hbA : ¬ A b) (hL : L ≤ 384) (hi6 : i + 6 ≤ L) (hl : l.stackTraces = false) (hNP : NatNpe) (hce : cells + 1000 ≤ 603072) (hsl : slots + 9000 ≤ 7262314) (o : Nat) (ad : Nat → Nat) (sa : Nat → Nat) (sb : Nat → Nat) (om : Nat) (am : Nat → Nat) (tr : Nat) (x : Nat → Int32) (pf : pF) (xm : Nat → Int32) (pa : Nat → Int32) (da : Option Nat) (n : Nat) (ra : Nat → Nat) (md : Int32) (wn : Int32) (od : Nat → Int32) (c : Nat → Int32) (T : va_W) (k : Nat) (kn : Nat) (hS : sOK T da n k ra c) (hx : x 2 = nI kn) (hA : aOK n k ra c xm kn pf pa) (hnm : c 17 = nI n) (hn7m : n ≤ 7) (hknm : xm 3 = nI kn) (hkn24m : kn ≤ 24)
    (kk : ∀ (r__476 : Int32) (xm1_476 : Nat → Int32) (pa1_476 : Nat → Int32) (c1_476 : Nat → Int32) (kn1_476 : Nat) (pf1_476 : pF) (wn1_476 : Int32) (od1_476 : Nat → Int32), ((r__476, xm1_476, pa1_476, c1_476) = mTake kn xm pa c (xs (i + 1)) ∧ sOK T da n k ra c1_476 ∧ aOK n k ra c1_476 xm1_476 kn1_476 pf1_476 pa1_476) → zJ pX l eX room_1 sX mX argsX blX mtX cX QX 4 (zI D A sX [cOb o ad (sa 0) (sb 0) tr (upd x 2 (nI kn1_476)), [(ad 2, .inl (D.1 106, 24, .inr (.inr (.inr (.inr (pRef pf1_476))))))], mOb om am xm1_476, [(am 5, .inl (D.1 100, 25, .inl c1_476))], [(am 9, .inl (D.1 100, 384, .inl pa1_476))], thP D sa ((da, n, ra), (md, wn1_476, od1_476), c1_476), pstP D pf1_476 24, T, Fr]) (cells + 6) (slots + 42) 1149 [(0, .ref b), (1, .ref o), (2, .ref om), (3, .int (nI i))] []) :
    zJ pX l eX room_1 sX mX argsX blX mtX cX QX 4 (zI D A sX [cOb o ad (sa 0) (sb 0) tr x, [(ad 2, .inl (D.1 106, 24, .inr (.inr (.inr (.inr (pRef pf))))))], mOb om am xm, [(am 5, .inl (D.1 100, 25, .inl c))], [(am 9, .inl (D.1 100, 384, .inl pa))], thP D sa ((da, n, ra), (md, wn, od), c), pstP D pf 24, T, Fr]) cells slots 470 [(0, .ref b), (1, .ref o), (2, .ref om), (3, .int (nI i))] [] := by
  refine z_aload_n (pc := 470) gX 1 dL_law_470 rfl rfl ?_
  refine z_aload_n (pc := 471) gX 0 dL_law_471 rfl rfl ?_
  refine z_iload_n (pc := 472) gX 3 dL_law_472 rfl rfl ?_
  refine z_iconst (pc := 473) gX 1 dL_law_473 (by decide) ?_
  refine z_iadd (pc := 474) gX dL_law_474 ?_
  refine z_top (nI (i + 1)) (nI_add i 1) ?_
  refine z_sld (pc := 475) gX (j := (i + 1)) hX hbl hbA (by omega) hL dL_law_475 ?_
  refine z_cMV (pc := 476) gX hAX [.int (xs (i + 1))] [] [0, 1, 5, 6, 7] [2, 3, 4, 8] (fun A1 => met_X0_take l D B0 A1 o ad sa sb tr x da n ra md wn od c T k xm pa pf kn (xs (i + 1)) (by first | assumption | omega) (by first | assumption | omega) (by first | assumption | omega)) q953 q954 q955 q47 q956 (zm 0 rfl) (ci := 0) rfl rfl hd_X0_take ⟨rfl, rfl⟩ ⟨(Nat.le_of_ble_eq_true rfl), (Nat.le_of_ble_eq_true rfl)⟩ rfl rfl (zpl 9 rfl (by decide +kernel)) rfl rfl (Nat.le_of_ble_eq_true rfl) ⟨by show _ ≤ (603072 : Nat); omega, by show _ ≤ (7262314 : Nat); omega⟩ dL_law_476 ?_
  intro u476 hu476
  obtain ⟨r__476, xm1_476, pa1_476, c1_476, kn1_476, pf1_476, wn1_476, od1_476⟩ := u476
  have hu476 : (r__476, xm1_476, pa1_476, c1_476) = mTake kn xm pa c (xs (i + 1)) ∧ sOK T da n k ra c1_476 ∧ aOK n k ra c1_476 xm1_476 kn1_476 pf1_476 pa1_476 := hu476
  refine z_re [0, 1, 5, 6, 7, 2, 3, 4, 8] [cOb o ad (sa 0) (sb 0) tr (upd x 2 (nI kn1_476)), [(ad 2, .inl (D.1 106, 24, .inr (.inr (.inr (.inr (pRef pf1_476))))))], mOb om am xm, [(am 5, .inl (D.1 100, 25, .inl c))], [(am 9, .inl (D.1 100, 384, .inl pa))], thP D sa ((da, n, ra), (md, wn1_476, od1_476), c1_476), pstP D pf1_476 24, T, Fr] rfl (zpl 9 rfl (by decide +kernel)) ?_
  refine z_norm [cOb o ad (sa 0) (sb 0) tr (upd x 2 (nI kn1_476)), [(ad 2, .inl (D.1 106, 24, .inr (.inr (.inr (.inr (pRef pf1_476))))))], mOb om am xm, [(am 5, .inl (D.1 100, 25, .inl c))], [(am 9, .inl (D.1 100, 384, .inl pa))], thP D sa ((da, n, ra), (md, wn1_476, od1_476), c1_476), pstP D pf1_476 24, T, Fr] (cells + 6) (slots + 42) ?_ rfl rfl rfl
  refine z_eq (lv₂ := [(0, .ref b), (1, .ref o), (2, .ref om), (3, .int (nI i))]) (st₂ := [.int r__476]) ?_ rfl rfl
  refine z_aload_n (pc := 479) gX 2 dL_law_479 rfl rfl ?_
  refine z_aload_n (pc := 480) gX 0 dL_law_480 rfl rfl ?_
  refine z_iload_n (pc := 481) gX 3 dL_law_481 rfl rfl ?_
  refine z_iconst (pc := 482) gX 1 dL_law_482 (by decide) ?_
  refine z_iadd (pc := 483) gX dL_law_483 ?_
  refine z_top (nI (i + 1)) (nI_add i 1) ?_
  refine z_sld (pc := 484) gX (j := (i + 1)) hX hbl hbA (by omega) hL dL_law_484 ?_
  refine z_cMV (pc := 485) gX hAX [.int (xs (i + 1))] [.int r__476] [2, 3, 4] [0, 1, 5, 6, 7, 8] (fun A1 => met_X4_take l D B0 A1 om am xm c pa n kn (xs (i + 1)) (by first | assumption | omega) (by first | assumption | omega) (by first | assumption | omega) (by first | assumption | omega)) q1568 q1569 q1570 q54 q1571 (zm 2 rfl) (ci := 4) rfl rfl hd_X4_take ⟨rfl, rfl⟩ ⟨(Nat.le_of_ble_eq_true rfl), (Nat.le_of_ble_eq_true rfl)⟩ rfl rfl (zpl 9 rfl (by decide +kernel)) rfl rfl (Nat.le_of_ble_eq_true rfl) ⟨by show _ ≤ (603072 : Nat); omega, by show _ ≤ (7262314 : Nat); omega⟩ dL_law_485 ?_
  intro u485 hu485
  obtain ⟨r__485, x1_485, pa1_485, c1_485⟩ := u485
  have hu485 : (r__485, x1_485, pa1_485, c1_485) = mTake kn xm pa c (xs (i + 1)) := hu485
  refine z_re [3, 4, 0, 1, 2, 5, 6, 7, 8] [cOb o ad (sa 0) (sb 0) tr (upd x 2 (nI kn1_476)), [(ad 2, .inl (D.1 106, 24, .inr (.inr (.inr (.inr (pRef pf1_476))))))], mOb om am x1_485, [(am 5, .inl (D.1 100, 25, .inl c1_485))], [(am 9, .inl (D.1 100, 384, .inl pa1_485))], thP D sa ((da, n, ra), (md, wn1_476, od1_476), c1_476), pstP D pf1_476 24, T, Fr] rfl (zpl 9 rfl (by decide +kernel)) ?_
  refine z_eq (lv₂ := [(0, .ref b), (1, .ref o), (2, .ref om), (3, .int (nI i))]) (st₂ := [.int r__485, .int r__476]) ?_ rfl rfl
  have he := (hu476.1).trans (hu485).symm
  simp only [Prod.mk.injEq] at he
  obtain ⟨rfl, rfl, rfl, rfl⟩ := he
  refine z_icmp_eq (pc := 488) gX 1149 dL_law_488 (by decide) (fun c488 => ?_) (fun c488 => ?_)
  · skip
    exact kk r__476 xm1_476 pa1_476 c1_476 kn1_476 pf1_476 wn1_476 od1_476 hu476
  · skip
    exact absurd rfl c488
set_option maxHeartbeats 4000000 in
theorem law_again {pX : Program} {l : Launch} {eX : Env} {sX : State} {mX : MethodId} {argsX : Array Value} {blX : List Frame} {mtX : Method} {cX : Code} {QX : State → Prop} {D : va_G} {A : Nat → Prop} {B0 cells slots b L i : Nat} {xs : Nat → Int32} {Fr : va_W} (gX : zG pX sX mX argsX mtX cX cL_law 4 "StepRidersLaw" (some .boolean) D B0) (hAX : zA sX A B0) (hX : va_X b L xs sX sX.heap) (hbl : b < sX.heap.size) (hbA : ¬ A b) (hL : L ≤ 384) (hi6 : i + 6 ≤ L) (hl : l.stackTraces = false) (hNP : NatNpe) (hce : cells + 1000 ≤ 603072) (hsl : slots + 9000 ≤ 7262314) (o : Nat) (ad : Nat → Nat) (sa : Nat → Nat) (sb : Nat → Nat) (om : Nat) (am : Nat → Nat) (tr : Nat) (x : Nat → Int32) (pf : pF) (xm : Nat → Int32) (pa : Nat → Int32) (da : Option Nat) (n : Nat) (ra : Nat → Nat) (md : Int32) (wn : Int32) (od : Nat → Int32) (c : Nat → Int32) (T : va_W) (k : Nat) (kn : Nat) (hS : sOK T da n k ra c) (hx : x 2 = nI kn) (hA : aOK n k ra c xm kn pf pa) (hnm : c 17 = nI n) (hn7m : n ≤ 7) (hknm : xm 3 = nI kn) (hkn24m : kn ≤ 24)
    (kk : ∀ (r__504 : Int32) (xm1_504 : Nat → Int32) (pa1_504 : Nat → Int32) (c1_504 : Nat → Int32) (kn1_504 : Nat) (pf1_504 : pF) (wn1_504 : Int32) (od1_504 : Nat → Int32), ((r__504, xm1_504, pa1_504, c1_504) = mAgain n kn xm pa c (xs (i + 1)) (xs (i + 2)) ∧ sOK T da n k ra c1_504 ∧ aOK n k ra c1_504 xm1_504 kn1_504 pf1_504 pa1_504) → zJ pX l eX room_1 sX mX argsX blX mtX cX QX 4 (zI D A sX [cOb o ad (sa 0) (sb 0) tr (upd x 2 (nI kn1_504)), [(ad 2, .inl (D.1 106, 24, .inr (.inr (.inr (.inr (pRef pf1_504))))))], mOb om am xm1_504, [(am 5, .inl (D.1 100, 25, .inl c1_504))], [(am 9, .inl (D.1 100, 384, .inl pa1_504))], thP D sa ((da, n, ra), (md, wn1_504, od1_504), c1_504), pstP D pf1_504 24, T, Fr]) (cells + 6) (slots + 42) 1149 [(0, .ref b), (1, .ref o), (2, .ref om), (3, .int (nI i))] []) :
    zJ pX l eX room_1 sX mX argsX blX mtX cX QX 4 (zI D A sX [cOb o ad (sa 0) (sb 0) tr x, [(ad 2, .inl (D.1 106, 24, .inr (.inr (.inr (.inr (pRef pf))))))], mOb om am xm, [(am 5, .inl (D.1 100, 25, .inl c))], [(am 9, .inl (D.1 100, 384, .inl pa))], thP D sa ((da, n, ra), (md, wn, od), c), pstP D pf 24, T, Fr]) cells slots 493 [(0, .ref b), (1, .ref o), (2, .ref om), (3, .int (nI i))] [] := by
  refine z_aload_n (pc := 493) gX 1 dL_law_493 rfl rfl ?_
  refine z_aload_n (pc := 494) gX 0 dL_law_494 rfl rfl ?_
  refine z_iload_n (pc := 495) gX 3 dL_law_495 rfl rfl ?_
  refine z_iconst (pc := 496) gX 1 dL_law_496 (by decide) ?_
  refine z_iadd (pc := 497) gX dL_law_497 ?_
  refine z_top (nI (i + 1)) (nI_add i 1) ?_
  refine z_sld (pc := 498) gX (j := (i + 1)) hX hbl hbA (by omega) hL dL_law_498 ?_
  refine z_aload_n (pc := 499) gX 0 dL_law_499 rfl rfl ?_
  refine z_iload_n (pc := 500) gX 3 dL_law_500 rfl rfl ?_
  refine z_iconst (pc := 501) gX 2 dL_law_501 (by decide) ?_
  refine z_iadd (pc := 502) gX dL_law_502 ?_
  refine z_top (nI (i + 2)) (nI_add i 2) ?_
  refine z_sld (pc := 503) gX (j := (i + 2)) hX hbl hbA (by omega) hL dL_law_503 ?_
  refine z_cMV (pc := 504) gX hAX [.int (xs (i + 1)), .int (xs (i + 2))] [] [0, 1, 5, 6, 7] [2, 3, 4, 8] (fun A1 => met_X0_again l D B0 A1 o ad sa sb tr x da n ra md wn od c T k xm pa pf kn (xs (i + 1)) (xs (i + 2)) (by first | assumption | omega) (by first | assumption | omega) (by first | assumption | omega)) q957 q958 q959 q47 q960 (zm 0 rfl) (ci := 0) rfl rfl hd_X0_again ⟨rfl, rfl⟩ ⟨(Nat.le_of_ble_eq_true rfl), (Nat.le_of_ble_eq_true rfl)⟩ rfl rfl (zpl 9 rfl (by decide +kernel)) rfl rfl (Nat.le_of_ble_eq_true rfl) ⟨by show _ ≤ (603072 : Nat); omega, by show _ ≤ (7262314 : Nat); omega⟩ dL_law_504 ?_
  intro u504 hu504
  obtain ⟨r__504, xm1_504, pa1_504, c1_504, kn1_504, pf1_504, wn1_504, od1_504⟩ := u504
  have hu504 : (r__504, xm1_504, pa1_504, c1_504) = mAgain n kn xm pa c (xs (i + 1)) (xs (i + 2)) ∧ sOK T da n k ra c1_504 ∧ aOK n k ra c1_504 xm1_504 kn1_504 pf1_504 pa1_504 := hu504
  refine z_re [0, 1, 5, 6, 7, 2, 3, 4, 8] [cOb o ad (sa 0) (sb 0) tr (upd x 2 (nI kn1_504)), [(ad 2, .inl (D.1 106, 24, .inr (.inr (.inr (.inr (pRef pf1_504))))))], mOb om am xm, [(am 5, .inl (D.1 100, 25, .inl c))], [(am 9, .inl (D.1 100, 384, .inl pa))], thP D sa ((da, n, ra), (md, wn1_504, od1_504), c1_504), pstP D pf1_504 24, T, Fr] rfl (zpl 9 rfl (by decide +kernel)) ?_
  refine z_norm [cOb o ad (sa 0) (sb 0) tr (upd x 2 (nI kn1_504)), [(ad 2, .inl (D.1 106, 24, .inr (.inr (.inr (.inr (pRef pf1_504))))))], mOb om am xm, [(am 5, .inl (D.1 100, 25, .inl c))], [(am 9, .inl (D.1 100, 384, .inl pa))], thP D sa ((da, n, ra), (md, wn1_504, od1_504), c1_504), pstP D pf1_504 24, T, Fr] (cells + 6) (slots + 42) ?_ rfl rfl rfl
  refine z_eq (lv₂ := [(0, .ref b), (1, .ref o), (2, .ref om), (3, .int (nI i))]) (st₂ := [.int r__504]) ?_ rfl rfl
  refine z_aload_n (pc := 507) gX 2 dL_law_507 rfl rfl ?_
  refine z_aload_n (pc := 508) gX 0 dL_law_508 rfl rfl ?_
  refine z_iload_n (pc := 509) gX 3 dL_law_509 rfl rfl ?_
  refine z_iconst (pc := 510) gX 1 dL_law_510 (by decide) ?_
  refine z_iadd (pc := 511) gX dL_law_511 ?_
  refine z_top (nI (i + 1)) (nI_add i 1) ?_
  refine z_sld (pc := 512) gX (j := (i + 1)) hX hbl hbA (by omega) hL dL_law_512 ?_
  refine z_aload_n (pc := 513) gX 0 dL_law_513 rfl rfl ?_
  refine z_iload_n (pc := 514) gX 3 dL_law_514 rfl rfl ?_
  refine z_iconst (pc := 515) gX 2 dL_law_515 (by decide) ?_
  refine z_iadd (pc := 516) gX dL_law_516 ?_
  refine z_top (nI (i + 2)) (nI_add i 2) ?_
  refine z_sld (pc := 517) gX (j := (i + 2)) hX hbl hbA (by omega) hL dL_law_517 ?_
  refine z_cMV (pc := 518) gX hAX [.int (xs (i + 1)), .int (xs (i + 2))] [.int r__504] [2, 3, 4] [0, 1, 5, 6, 7, 8] (fun A1 => met_X4_again l D B0 A1 om am xm c pa n kn (xs (i + 1)) (xs (i + 2)) (by first | assumption | omega) (by first | assumption | omega) (by first | assumption | omega) (by first | assumption | omega)) q1572 q1573 q1574 q54 q1575 (zm 2 rfl) (ci := 4) rfl rfl hd_X4_again ⟨rfl, rfl⟩ ⟨(Nat.le_of_ble_eq_true rfl), (Nat.le_of_ble_eq_true rfl)⟩ rfl rfl (zpl 9 rfl (by decide +kernel)) rfl rfl (Nat.le_of_ble_eq_true rfl) ⟨by show _ ≤ (603072 : Nat); omega, by show _ ≤ (7262314 : Nat); omega⟩ dL_law_518 ?_
  intro u518 hu518
  obtain ⟨r__518, x1_518, pa1_518, c1_518⟩ := u518
  have hu518 : (r__518, x1_518, pa1_518, c1_518) = mAgain n kn xm pa c (xs (i + 1)) (xs (i + 2)) := hu518
  refine z_re [3, 4, 0, 1, 2, 5, 6, 7, 8] [cOb o ad (sa 0) (sb 0) tr (upd x 2 (nI kn1_504)), [(ad 2, .inl (D.1 106, 24, .inr (.inr (.inr (.inr (pRef pf1_504))))))], mOb om am x1_518, [(am 5, .inl (D.1 100, 25, .inl c1_518))], [(am 9, .inl (D.1 100, 384, .inl pa1_518))], thP D sa ((da, n, ra), (md, wn1_504, od1_504), c1_504), pstP D pf1_504 24, T, Fr] rfl (zpl 9 rfl (by decide +kernel)) ?_
  refine z_eq (lv₂ := [(0, .ref b), (1, .ref o), (2, .ref om), (3, .int (nI i))]) (st₂ := [.int r__518, .int r__504]) ?_ rfl rfl
  have he := (hu504.1).trans (hu518).symm
  simp only [Prod.mk.injEq] at he
  obtain ⟨rfl, rfl, rfl, rfl⟩ := he
  refine z_icmp_eq (pc := 521) gX 1149 dL_law_521 (by decide) (fun c521 => ?_) (fun c521 => ?_)
  · skip
    exact kk r__504 xm1_504 pa1_504 c1_504 kn1_504 pf1_504 wn1_504 od1_504 hu504
  · skip
    exact absurd rfl c521
set_option maxHeartbeats 4000000 in
theorem law_undo {pX : Program} {l : Launch} {eX : Env} {sX : State} {mX : MethodId} {argsX : Array Value} {blX : List Frame} {mtX : Method} {cX : Code} {QX : State → Prop} {D : va_G} {A : Nat → Prop} {B0 cells slots b L i : Nat} {xs : Nat → Int32} {Fr : va_W} (gX : zG pX sX mX argsX mtX cX cL_law 4 "StepRidersLaw" (some .boolean) D B0) (hAX : zA sX A B0) (hX : va_X b L xs sX sX.heap) (hbl : b < sX.heap.size) (hbA : ¬ A b) (hL : L ≤ 384) (hi6 : i + 6 ≤ L) (hl : l.stackTraces = false) (hNP : NatNpe) (hce : cells + 1000 ≤ 603072) (hsl : slots + 9000 ≤ 7262314) (o : Nat) (ad : Nat → Nat) (sa : Nat → Nat) (sb : Nat → Nat) (om : Nat) (am : Nat → Nat) (tr : Nat) (x : Nat → Int32) (pf : pF) (xm : Nat → Int32) (pa : Nat → Int32) (da : Option Nat) (n : Nat) (ra : Nat → Nat) (md : Int32) (wn : Int32) (od : Nat → Int32) (c : Nat → Int32) (T : va_W) (k : Nat) (kn : Nat) (hS : sOK T da n k ra c) (hx : x 2 = nI kn) (hA : aOK n k ra c xm kn pf pa) (hknm : xm 3 = nI kn) (hkn24m : kn ≤ 24)
    (kk : ∀ (r__527 : Int32) (xm1_527 : Nat → Int32) (c1_527 : Nat → Int32) (kn1_527 : Nat) (md1_527 : Int32) (wn1_527 : Int32), ((r__527, xm1_527, c1_527) = mUndo kn xm pa c ∧ sOK T da n k ra c1_527 ∧ aOK n k ra c1_527 xm1_527 kn1_527 pf pa) → zJ pX l eX room_1 sX mX argsX blX mtX cX QX 4 (zI D A sX [cOb o ad (sa 0) (sb 0) tr (upd x 2 (nI kn1_527)), [(ad 2, .inl (D.1 106, 24, .inr (.inr (.inr (.inr (pRef pf))))))], mOb om am xm1_527, [(am 5, .inl (D.1 100, 25, .inl c1_527))], [(am 9, .inl (D.1 100, 384, .inl pa))], thP D sa ((da, n, ra), (md1_527, wn1_527, od), c1_527), pstP D pf 24, T, Fr]) (cells) (slots) 1149 [(0, .ref b), (1, .ref o), (2, .ref om), (3, .int (nI i))] []) :
    zJ pX l eX room_1 sX mX argsX blX mtX cX QX 4 (zI D A sX [cOb o ad (sa 0) (sb 0) tr x, [(ad 2, .inl (D.1 106, 24, .inr (.inr (.inr (.inr (pRef pf))))))], mOb om am xm, [(am 5, .inl (D.1 100, 25, .inl c))], [(am 9, .inl (D.1 100, 384, .inl pa))], thP D sa ((da, n, ra), (md, wn, od), c), pstP D pf 24, T, Fr]) cells slots 526 [(0, .ref b), (1, .ref o), (2, .ref om), (3, .int (nI i))] [] := by
  refine z_aload_n (pc := 526) gX 1 dL_law_526 rfl rfl ?_
  refine z_cMV (pc := 527) gX hAX [] [] [0, 1, 5, 6, 7] [2, 3, 4, 8] (fun A1 => met_X0_undo l D B0 A1 o ad sa sb tr x da n ra md wn od c T k xm pa pf kn (by first | assumption | omega) (by first | assumption | omega) (by first | assumption | omega)) q964 q965 q966 q47 q967 (zm 0 rfl) (ci := 0) rfl rfl hd_X0_undo ⟨rfl, rfl⟩ ⟨(Nat.le_of_ble_eq_true rfl), (Nat.le_of_ble_eq_true rfl)⟩ rfl rfl (zpl 9 rfl (by decide +kernel)) rfl rfl (Nat.le_of_ble_eq_true rfl) ⟨by show _ ≤ (603072 : Nat); omega, by show _ ≤ (7262314 : Nat); omega⟩ dL_law_527 ?_
  intro u527 hu527
  obtain ⟨r__527, xm1_527, c1_527, kn1_527, md1_527, wn1_527⟩ := u527
  have hu527 : (r__527, xm1_527, c1_527) = mUndo kn xm pa c ∧ sOK T da n k ra c1_527 ∧ aOK n k ra c1_527 xm1_527 kn1_527 pf pa := hu527
  refine z_re [0, 1, 5, 6, 7, 2, 3, 4, 8] [cOb o ad (sa 0) (sb 0) tr (upd x 2 (nI kn1_527)), [(ad 2, .inl (D.1 106, 24, .inr (.inr (.inr (.inr (pRef pf))))))], mOb om am xm, [(am 5, .inl (D.1 100, 25, .inl c))], [(am 9, .inl (D.1 100, 384, .inl pa))], thP D sa ((da, n, ra), (md1_527, wn1_527, od), c1_527), pstP D pf 24, T, Fr] rfl (zpl 9 rfl (by decide +kernel)) ?_
  refine z_eq (lv₂ := [(0, .ref b), (1, .ref o), (2, .ref om), (3, .int (nI i))]) (st₂ := [.int r__527]) ?_ rfl rfl
  refine z_aload_n (pc := 530) gX 2 dL_law_530 rfl rfl ?_
  refine z_cMV (pc := 531) gX hAX [] [.int r__527] [2, 3, 4] [0, 1, 5, 6, 7, 8] (fun A1 => met_X4_undo l D B0 A1 om am xm c pa kn (by first | assumption | omega) (by first | assumption | omega)) q1576 q1577 q1578 q54 q1579 (zm 2 rfl) (ci := 4) rfl rfl hd_X4_undo ⟨rfl, rfl⟩ ⟨(Nat.le_of_ble_eq_true rfl), (Nat.le_of_ble_eq_true rfl)⟩ rfl rfl (zpl 9 rfl (by decide +kernel)) rfl rfl (Nat.le_of_ble_eq_true rfl) ⟨by show _ ≤ (603072 : Nat); omega, by show _ ≤ (7262314 : Nat); omega⟩ dL_law_531 ?_
  intro u531 hu531
  obtain ⟨r__531, x1_531, c1_531⟩ := u531
  have hu531 : (r__531, x1_531, c1_531) = mUndo kn xm pa c := hu531
  refine z_re [3, 4, 0, 1, 2, 5, 6, 7, 8] [cOb o ad (sa 0) (sb 0) tr (upd x 2 (nI kn1_527)), [(ad 2, .inl (D.1 106, 24, .inr (.inr (.inr (.inr (pRef pf))))))], mOb om am x1_531, [(am 5, .inl (D.1 100, 25, .inl c1_531))], [(am 9, .inl (D.1 100, 384, .inl pa))], thP D sa ((da, n, ra), (md1_527, wn1_527, od), c1_527), pstP D pf 24, T, Fr] rfl (zpl 9 rfl (by decide +kernel)) ?_
  refine z_eq (lv₂ := [(0, .ref b), (1, .ref o), (2, .ref om), (3, .int (nI i))]) (st₂ := [.int r__531, .int r__527]) ?_ rfl rfl
  have he := (hu527.1).trans (hu531).symm
  simp only [Prod.mk.injEq] at he
  obtain ⟨rfl, rfl, rfl⟩ := he
  refine z_icmp_eq (pc := 534) gX 1149 dL_law_534 (by decide) (fun c534 => ?_) (fun c534 => ?_)
  · skip
    exact kk r__527 xm1_527 c1_527 kn1_527 md1_527 wn1_527 hu527
  · skip
    exact absurd rfl c534
set_option maxHeartbeats 4000000 in
theorem law_rider {pX : Program} {l : Launch} {eX : Env} {sX : State} {mX : MethodId} {argsX : Array Value} {blX : List Frame} {mtX : Method} {cX : Code} {QX : State → Prop} {D : va_G} {A : Nat → Prop} {B0 cells slots b L i : Nat} {xs : Nat → Int32} {Fr : va_W} (gX : zG pX sX mX argsX mtX cX cL_law 4 "StepRidersLaw" (some .boolean) D B0) (hAX : zA sX A B0) (hX : va_X b L xs sX sX.heap) (hbl : b < sX.heap.size) (hbA : ¬ A b) (hL : L ≤ 384) (hi6 : i + 6 ≤ L) (hl : l.stackTraces = false) (hNP : NatNpe) (hce : cells + 1000 ≤ 603072) (hsl : slots + 9000 ≤ 7262314) (o : Nat) (ad : Nat → Nat) (sa : Nat → Nat) (sb : Nat → Nat) (om : Nat) (am : Nat → Nat) (tr : Nat) (x : Nat → Int32) (xm : Nat → Int32) (da : Option Nat) (n : Nat) (ra : Nat → Nat) (md : Int32) (wn : Int32) (od : Nat → Int32) (c : Nat → Int32) (T : va_W) (k : Nat) (hS : sOK T da n k ra c) (hw : 0 < n → wR n c) (hnm : c 17 = nI n) (hn7m : n ≤ 7)
    (kk : zJ pX l eX room_1 sX mX argsX blX mtX cX QX 4 (zI D A sX [cOb o ad (sa 0) (sb 0) tr x, mOb om am xm, [(am 5, .inl (D.1 100, 25, .inl c))], thP D sa ((da, n, ra), (md, wn, od), c), T, Fr]) (cells) (slots) 1149 [(0, .ref b), (1, .ref o), (2, .ref om), (3, .int (nI i))] []) :
    zJ pX l eX room_1 sX mX argsX blX mtX cX QX 4 (zI D A sX [cOb o ad (sa 0) (sb 0) tr x, mOb om am xm, [(am 5, .inl (D.1 100, 25, .inl c))], thP D sa ((da, n, ra), (md, wn, od), c), T, Fr]) cells slots 539 [(0, .ref b), (1, .ref o), (2, .ref om), (3, .int (nI i))] [] := by
  refine z_aload_n (pc := 539) gX 1 dL_law_539 rfl rfl ?_
  refine z_aload_n (pc := 540) gX 0 dL_law_540 rfl rfl ?_
  refine z_iload_n (pc := 541) gX 3 dL_law_541 rfl rfl ?_
  refine z_iconst (pc := 542) gX 1 dL_law_542 (by decide) ?_
  refine z_iadd (pc := 543) gX dL_law_543 ?_
  refine z_top (nI (i + 1)) (nI_add i 1) ?_
  refine z_sld (pc := 544) gX (j := (i + 1)) hX hbl hbA (by omega) hL dL_law_544 ?_
  refine z_aload_n (pc := 545) gX 0 dL_law_545 rfl rfl ?_
  refine z_iload_n (pc := 546) gX 3 dL_law_546 rfl rfl ?_
  refine z_iconst (pc := 547) gX 2 dL_law_547 (by decide) ?_
  refine z_iadd (pc := 548) gX dL_law_548 ?_
  refine z_top (nI (i + 2)) (nI_add i 2) ?_
  refine z_sld (pc := 549) gX (j := (i + 2)) hX hbl hbA (by omega) hL dL_law_549 ?_
  refine z_cOV (pc := 550) gX (zI_ok gX hAX) [.int (xs (i + 1)), .int (xs (i + 2))] [] [0, 3, 4] (met_X0_rider l D B0 o ad sa sb tr x da n ra md wn od c T k (xs (i + 1)) (xs (i + 2)) (by first | assumption | omega) (by first | assumption | omega)) q968 q969 q970 q47 q971 (zm 0 rfl) (ci := 0) rfl rfl hd_X0_rider ⟨rfl, rfl⟩ ⟨(Nat.le_of_ble_eq_true rfl), (Nat.le_of_ble_eq_true rfl)⟩ rfl rfl rfl (Nat.le_of_ble_eq_true rfl) ⟨by show _ ≤ (603072 : Nat); omega, by show _ ≤ (7262314 : Nat); omega⟩ dL_law_550 ?_
  intro _ hu550
  refine z_eq (lv₂ := [(0, .ref b), (1, .ref o), (2, .ref om), (3, .int (nI i))]) (st₂ := [.int (mRider n c (xs (i + 1)) (xs (i + 2)))]) ?_ rfl rfl
  refine z_aload_n (pc := 553) gX 2 dL_law_553 rfl rfl ?_
  refine z_aload_n (pc := 554) gX 0 dL_law_554 rfl rfl ?_
  refine z_iload_n (pc := 555) gX 3 dL_law_555 rfl rfl ?_
  refine z_iconst (pc := 556) gX 1 dL_law_556 (by decide) ?_
  refine z_iadd (pc := 557) gX dL_law_557 ?_
  refine z_top (nI (i + 1)) (nI_add i 1) ?_
  refine z_sld (pc := 558) gX (j := (i + 1)) hX hbl hbA (by omega) hL dL_law_558 ?_
  refine z_aload_n (pc := 559) gX 0 dL_law_559 rfl rfl ?_
  refine z_iload_n (pc := 560) gX 3 dL_law_560 rfl rfl ?_
  refine z_iconst (pc := 561) gX 2 dL_law_561 (by decide) ?_
  refine z_iadd (pc := 562) gX dL_law_562 ?_
  refine z_top (nI (i + 2)) (nI_add i 2) ?_
  refine z_sld (pc := 563) gX (j := (i + 2)) hX hbl hbA (by omega) hL dL_law_563 ?_
  refine z_cOV (pc := 564) gX (zI_ok gX hAX) [.int (xs (i + 1)), .int (xs (i + 2))] [.int (mRider n c (xs (i + 1)) (xs (i + 2)))] [1, 2] (met_X4_rider l D B0 om am xm c n (xs (i + 1)) (xs (i + 2)) (by first | assumption | omega) (by first | assumption | omega)) q1580 q1581 q1582 q54 q1583 (zm 1 rfl) (ci := 4) rfl rfl hd_X4_rider ⟨rfl, rfl⟩ ⟨(Nat.le_of_ble_eq_true rfl), (Nat.le_of_ble_eq_true rfl)⟩ rfl rfl rfl (Nat.le_of_ble_eq_true rfl) ⟨by show _ ≤ (603072 : Nat); omega, by show _ ≤ (7262314 : Nat); omega⟩ dL_law_564 ?_
  intro _ hu564
  refine z_eq (lv₂ := [(0, .ref b), (1, .ref o), (2, .ref om), (3, .int (nI i))]) (st₂ := [.int (mRider n c (xs (i + 1)) (xs (i + 2))), .int (mRider n c (xs (i + 1)) (xs (i + 2)))]) ?_ rfl rfl
  refine z_icmp_eq (pc := 567) gX 1149 dL_law_567 (by decide) (fun c567 => ?_) (fun c567 => ?_)
  · skip
    exact kk
  · skip
    exact absurd rfl c567
set_option maxHeartbeats 4000000 in
theorem law_step {pX : Program} {l : Launch} {eX : Env} {sX : State} {mX : MethodId} {argsX : Array Value} {blX : List Frame} {mtX : Method} {cX : Code} {QX : State → Prop} {D : va_G} {A : Nat → Prop} {B0 cells slots b L i : Nat} {xs : Nat → Int32} {Fr : va_W} (gX : zG pX sX mX argsX mtX cX cL_law 4 "StepRidersLaw" (some .boolean) D B0) (hAX : zA sX A B0) (hX : va_X b L xs sX sX.heap) (hbl : b < sX.heap.size) (hbA : ¬ A b) (hL : L ≤ 384) (hi6 : i + 6 ≤ L) (hl : l.stackTraces = false) (hNP : NatNpe) (hce : cells + 1000 ≤ 603072) (hsl : slots + 9000 ≤ 7262314) (o : Nat) (ad : Nat → Nat) (sa : Nat → Nat) (sb : Nat → Nat) (om : Nat) (am : Nat → Nat) (tr : Nat) (x : Nat → Int32) (xm : Nat → Int32) (da : Option Nat) (n : Nat) (ra : Nat → Nat) (md : Int32) (wn : Int32) (od : Nat → Int32) (c : Nat → Int32) (T : va_W) (k : Nat) (hS : sOK T da n k ra c) (hnm : c 17 = nI n) (hn7m : n ≤ 7)
    (kk : zJ pX l eX room_1 sX mX argsX blX mtX cX QX 4 (zI D A sX [cOb o ad (sa 0) (sb 0) tr x, mOb om am xm, [(am 5, .inl (D.1 100, 25, .inl c))], thP D sa ((da, n, ra), (md, wn, od), c), T, Fr]) (cells) (slots) 1149 [(0, .ref b), (1, .ref o), (2, .ref om), (3, .int (nI i))] []) :
    zJ pX l eX room_1 sX mX argsX blX mtX cX QX 4 (zI D A sX [cOb o ad (sa 0) (sb 0) tr x, mOb om am xm, [(am 5, .inl (D.1 100, 25, .inl c))], thP D sa ((da, n, ra), (md, wn, od), c), T, Fr]) cells slots 572 [(0, .ref b), (1, .ref o), (2, .ref om), (3, .int (nI i))] [] := by
  refine z_aload_n (pc := 572) gX 1 dL_law_572 rfl rfl ?_
  refine z_aload_n (pc := 573) gX 0 dL_law_573 rfl rfl ?_
  refine z_iload_n (pc := 574) gX 3 dL_law_574 rfl rfl ?_
  refine z_iconst (pc := 575) gX 1 dL_law_575 (by decide) ?_
  refine z_iadd (pc := 576) gX dL_law_576 ?_
  refine z_top (nI (i + 1)) (nI_add i 1) ?_
  refine z_sld (pc := 577) gX (j := (i + 1)) hX hbl hbA (by omega) hL dL_law_577 ?_
  refine z_aload_n (pc := 578) gX 0 dL_law_578 rfl rfl ?_
  refine z_iload_n (pc := 579) gX 3 dL_law_579 rfl rfl ?_
  refine z_iconst (pc := 580) gX 2 dL_law_580 (by decide) ?_
  refine z_iadd (pc := 581) gX dL_law_581 ?_
  refine z_top (nI (i + 2)) (nI_add i 2) ?_
  refine z_sld (pc := 582) gX (j := (i + 2)) hX hbl hbA (by omega) hL dL_law_582 ?_
  refine z_cOV (pc := 583) gX (zI_ok gX hAX) [.int (xs (i + 1)), .int (xs (i + 2))] [] [0, 3, 4] (met_X0_step l D B0 o ad sa sb tr x da n ra md wn od c T k (xs (i + 1)) (xs (i + 2)) (by first | assumption | omega)) q973 q974 q975 q47 q976 (zm 0 rfl) (ci := 0) rfl rfl hd_X0_step ⟨rfl, rfl⟩ ⟨(Nat.le_of_ble_eq_true rfl), (Nat.le_of_ble_eq_true rfl)⟩ rfl rfl rfl (Nat.le_of_ble_eq_true rfl) ⟨by show _ ≤ (603072 : Nat); omega, by show _ ≤ (7262314 : Nat); omega⟩ dL_law_583 ?_
  intro _ hu583
  refine z_eq (lv₂ := [(0, .ref b), (1, .ref o), (2, .ref om), (3, .int (nI i))]) (st₂ := [.int (mStep n c (xs (i + 1)) (xs (i + 2)))]) ?_ rfl rfl
  refine z_aload_n (pc := 586) gX 2 dL_law_586 rfl rfl ?_
  refine z_aload_n (pc := 587) gX 0 dL_law_587 rfl rfl ?_
  refine z_iload_n (pc := 588) gX 3 dL_law_588 rfl rfl ?_
  refine z_iconst (pc := 589) gX 1 dL_law_589 (by decide) ?_
  refine z_iadd (pc := 590) gX dL_law_590 ?_
  refine z_top (nI (i + 1)) (nI_add i 1) ?_
  refine z_sld (pc := 591) gX (j := (i + 1)) hX hbl hbA (by omega) hL dL_law_591 ?_
  refine z_aload_n (pc := 592) gX 0 dL_law_592 rfl rfl ?_
  refine z_iload_n (pc := 593) gX 3 dL_law_593 rfl rfl ?_
  refine z_iconst (pc := 594) gX 2 dL_law_594 (by decide) ?_
  refine z_iadd (pc := 595) gX dL_law_595 ?_
  refine z_top (nI (i + 2)) (nI_add i 2) ?_
  refine z_sld (pc := 596) gX (j := (i + 2)) hX hbl hbA (by omega) hL dL_law_596 ?_
  refine z_cOV (pc := 597) gX (zI_ok gX hAX) [.int (xs (i + 1)), .int (xs (i + 2))] [.int (mStep n c (xs (i + 1)) (xs (i + 2)))] [1, 2] (met_X4_step l D B0 om am xm c n (xs (i + 1)) (xs (i + 2)) (by first | assumption | omega) (by first | assumption | omega)) q1584 q1585 q1586 q54 q1587 (zm 1 rfl) (ci := 4) rfl rfl hd_X4_step ⟨rfl, rfl⟩ ⟨(Nat.le_of_ble_eq_true rfl), (Nat.le_of_ble_eq_true rfl)⟩ rfl rfl rfl (Nat.le_of_ble_eq_true rfl) ⟨by show _ ≤ (603072 : Nat); omega, by show _ ≤ (7262314 : Nat); omega⟩ dL_law_597 ?_
  intro _ hu597
  refine z_eq (lv₂ := [(0, .ref b), (1, .ref o), (2, .ref om), (3, .int (nI i))]) (st₂ := [.int (mStep n c (xs (i + 1)) (xs (i + 2))), .int (mStep n c (xs (i + 1)) (xs (i + 2)))]) ?_ rfl rfl
  refine z_icmp_eq (pc := 600) gX 1149 dL_law_600 (by decide) (fun c600 => ?_) (fun c600 => ?_)
  · skip
    exact kk
  · skip
    exact absurd rfl c600
set_option maxHeartbeats 4000000 in
theorem law_ahead {pX : Program} {l : Launch} {eX : Env} {sX : State} {mX : MethodId} {argsX : Array Value} {blX : List Frame} {mtX : Method} {cX : Code} {QX : State → Prop} {D : va_G} {A : Nat → Prop} {B0 cells slots b L i : Nat} {xs : Nat → Int32} {Fr : va_W} (gX : zG pX sX mX argsX mtX cX cL_law 4 "StepRidersLaw" (some .boolean) D B0) (hAX : zA sX A B0) (hX : va_X b L xs sX sX.heap) (hbl : b < sX.heap.size) (hbA : ¬ A b) (hL : L ≤ 384) (hi6 : i + 6 ≤ L) (hl : l.stackTraces = false) (hNP : NatNpe) (hce : cells + 1000 ≤ 603072) (hsl : slots + 9000 ≤ 7262314) (o : Nat) (ad : Nat → Nat) (sa : Nat → Nat) (sb : Nat → Nat) (om : Nat) (am : Nat → Nat) (tr : Nat) (x : Nat → Int32) (xm : Nat → Int32) (th : Nat → Int32) (wm : Nat → Int32) (da : Option Nat) (n : Nat) (ra : Nat → Nat) (md : Int32) (wn : Int32) (od : Nat → Int32) (c : Nat → Int32) (ht : sT) (T : va_W) (k : Nat) (hS : sOK T da n k ra c) (ht0 : tOK ht) (hnm : c 17 = nI n) (hn7m : n ≤ 7) (hkm : c 16 = nI k) (hk12m : k ≤ 12)
    (kk : ∀ (ht1_616 : sT) (th1_630 : Nat → Int32) (wn1_630 : Nat → Int32), (tOK ht1_616) → zJ pX l eX room_1 sX mX argsX blX mtX cX QX 4 (zI D A sX [cOb o ad (sa 0) (sb 0) tr x, mOb om am xm, [(am 5, .inl (D.1 100, 25, .inl c))], [(am 10, .inl (D.1 100, 25, .inl th1_630))], [(am 11, .inl (D.1 100, 25, .inl wn1_630))], thP D sa ((da, n, ra), (md, wn, od), c), thP D sb ht1_616, T, Fr]) (cells + 1) (slots + 10) 1149 [(0, .ref b), (1, .ref o), (2, .ref om), (3, .int (nI i))] []) :
    zJ pX l eX room_1 sX mX argsX blX mtX cX QX 4 (zI D A sX [cOb o ad (sa 0) (sb 0) tr x, mOb om am xm, [(am 5, .inl (D.1 100, 25, .inl c))], [(am 10, .inl (D.1 100, 25, .inl th))], [(am 11, .inl (D.1 100, 25, .inl wm))], thP D sa ((da, n, ra), (md, wn, od), c), thP D sb ht, T, Fr]) cells slots 605 [(0, .ref b), (1, .ref o), (2, .ref om), (3, .int (nI i))] [] := by
  refine z_aload_n (pc := 605) gX 1 dL_law_605 rfl rfl ?_
  refine z_aload_n (pc := 606) gX 0 dL_law_606 rfl rfl ?_
  refine z_iload_n (pc := 607) gX 3 dL_law_607 rfl rfl ?_
  refine z_iconst (pc := 608) gX 1 dL_law_608 (by decide) ?_
  refine z_iadd (pc := 609) gX dL_law_609 ?_
  refine z_top (nI (i + 1)) (nI_add i 1) ?_
  refine z_sld (pc := 610) gX (j := (i + 1)) hX hbl hbA (by omega) hL dL_law_610 ?_
  refine z_aload_n (pc := 611) gX 0 dL_law_611 rfl rfl ?_
  refine z_iload_n (pc := 612) gX 3 dL_law_612 rfl rfl ?_
  refine z_iconst (pc := 613) gX 2 dL_law_613 (by decide) ?_
  refine z_iadd (pc := 614) gX dL_law_614 ?_
  refine z_top (nI (i + 2)) (nI_add i 2) ?_
  refine z_sld (pc := 615) gX (j := (i + 2)) hX hbl hbA (by omega) hL dL_law_615 ?_
  refine z_cMV (pc := 616) gX hAX [.int (xs (i + 1)), .int (xs (i + 2))] [] [0, 5, 6, 7] [1, 2, 3, 4, 8] (fun A1 => met_X0_ahead l D B0 A1 o ad sa sb tr x da n ra md wn od c T k ht (xs (i + 1)) (xs (i + 2)) (by first | assumption | omega) (by first | assumption | omega)) q978 q979 q980 q47 q981 (zm 0 rfl) (ci := 0) rfl rfl hd_X0_ahead ⟨rfl, rfl⟩ ⟨(Nat.le_of_ble_eq_true rfl), (Nat.le_of_ble_eq_true rfl)⟩ rfl rfl (zpl 9 rfl (by decide +kernel)) rfl rfl (Nat.le_of_ble_eq_true rfl) ⟨by show _ ≤ (603072 : Nat); omega, by show _ ≤ (7262314 : Nat); omega⟩ dL_law_616 ?_
  intro u616 hu616
  obtain ⟨ht1_616, rfl⟩ : ∃ z, z = u616 := ⟨_, rfl⟩
  have hu616 : tOK ht1_616 := hu616
  refine z_re [0, 4, 5, 6, 7, 1, 2, 3, 8] [cOb o ad (sa 0) (sb 0) tr x, mOb om am xm, [(am 5, .inl (D.1 100, 25, .inl c))], [(am 10, .inl (D.1 100, 25, .inl th))], [(am 11, .inl (D.1 100, 25, .inl wm))], thP D sa ((da, n, ra), (md, wn, od), c), thP D sb ht1_616, T, Fr] rfl (zpl 9 rfl (by decide +kernel)) ?_
  refine z_norm [cOb o ad (sa 0) (sb 0) tr x, mOb om am xm, [(am 5, .inl (D.1 100, 25, .inl c))], [(am 10, .inl (D.1 100, 25, .inl th))], [(am 11, .inl (D.1 100, 25, .inl wm))], thP D sa ((da, n, ra), (md, wn, od), c), thP D sb ht1_616, T, Fr] (cells + 1) (slots + 10) ?_ rfl rfl rfl
  refine z_eq (lv₂ := [(0, .ref b), (1, .ref o), (2, .ref om), (3, .int (nI i))]) (st₂ := [.int (mAhead n k c (xs (i + 1)) (xs (i + 2)))]) ?_ rfl rfl
  refine z_aload_n (pc := 619) gX 2 dL_law_619 rfl rfl ?_
  refine z_aload_n (pc := 620) gX 0 dL_law_620 rfl rfl ?_
  refine z_iload_n (pc := 621) gX 3 dL_law_621 rfl rfl ?_
  refine z_iconst (pc := 622) gX 1 dL_law_622 (by decide) ?_
  refine z_iadd (pc := 623) gX dL_law_623 ?_
  refine z_top (nI (i + 1)) (nI_add i 1) ?_
  refine z_sld (pc := 624) gX (j := (i + 1)) hX hbl hbA (by omega) hL dL_law_624 ?_
  refine z_aload_n (pc := 625) gX 0 dL_law_625 rfl rfl ?_
  refine z_iload_n (pc := 626) gX 3 dL_law_626 rfl rfl ?_
  refine z_iconst (pc := 627) gX 2 dL_law_627 (by decide) ?_
  refine z_iadd (pc := 628) gX dL_law_628 ?_
  refine z_top (nI (i + 2)) (nI_add i 2) ?_
  refine z_sld (pc := 629) gX (j := (i + 2)) hX hbl hbA (by omega) hL dL_law_629 ?_
  refine z_cMV (pc := 630) gX hAX [.int (xs (i + 1)), .int (xs (i + 2))] [.int (mAhead n k c (xs (i + 1)) (xs (i + 2)))] [1, 2, 3, 4] [0, 5, 6, 7, 8] (fun A1 => met_X4_ahead l D B0 A1 om am xm c th wm n k (xs (i + 1)) (xs (i + 2)) (by first | assumption | omega) (by first | assumption | omega) (by first | assumption | omega) (by first | assumption | omega)) q1588 q1589 q1590 q54 q1591 (zm 1 rfl) (ci := 4) rfl rfl hd_X4_ahead ⟨rfl, rfl⟩ ⟨(Nat.le_of_ble_eq_true rfl), (Nat.le_of_ble_eq_true rfl)⟩ rfl rfl (zpl 9 rfl (by decide +kernel)) rfl rfl (Nat.le_of_ble_eq_true rfl) ⟨by show _ ≤ (603072 : Nat); omega, by show _ ≤ (7262314 : Nat); omega⟩ dL_law_630 ?_
  intro u630 hu630
  obtain ⟨th1_630, wn1_630⟩ := u630
  refine z_re [4, 0, 1, 2, 3, 5, 6, 7, 8] [cOb o ad (sa 0) (sb 0) tr x, mOb om am xm, [(am 5, .inl (D.1 100, 25, .inl c))], [(am 10, .inl (D.1 100, 25, .inl th1_630))], [(am 11, .inl (D.1 100, 25, .inl wn1_630))], thP D sa ((da, n, ra), (md, wn, od), c), thP D sb ht1_616, T, Fr] rfl (zpl 9 rfl (by decide +kernel)) ?_
  refine z_eq (lv₂ := [(0, .ref b), (1, .ref o), (2, .ref om), (3, .int (nI i))]) (st₂ := [.int (mAhead n k c (xs (i + 1)) (xs (i + 2))), .int (mAhead n k c (xs (i + 1)) (xs (i + 2)))]) ?_ rfl rfl
  refine z_icmp_eq (pc := 633) gX 1149 dL_law_633 (by decide) (fun c633 => ?_) (fun c633 => ?_)
  · skip
    exact kk ht1_616 th1_630 wn1_630 hu616
  · skip
    exact absurd rfl c633
set_option maxHeartbeats 4000000 in
theorem law_later {pX : Program} {l : Launch} {eX : Env} {sX : State} {mX : MethodId} {argsX : Array Value} {blX : List Frame} {mtX : Method} {cX : Code} {QX : State → Prop} {D : va_G} {A : Nat → Prop} {B0 cells slots b L i : Nat} {xs : Nat → Int32} {Fr : va_W} (gX : zG pX sX mX argsX mtX cX cL_law 4 "StepRidersLaw" (some .boolean) D B0) (hAX : zA sX A B0) (hX : va_X b L xs sX sX.heap) (hbl : b < sX.heap.size) (hbA : ¬ A b) (hL : L ≤ 384) (hi6 : i + 6 ≤ L) (hl : l.stackTraces = false) (hNP : NatNpe) (hce : cells + 1000 ≤ 603072) (hsl : slots + 9000 ≤ 7262314) (o : Nat) (ad : Nat → Nat) (sa : Nat → Nat) (sb : Nat → Nat) (om : Nat) (am : Nat → Nat) (tr : Nat) (x : Nat → Int32) (xm : Nat → Int32) (th : Nat → Int32) (wm : Nat → Int32) (da : Option Nat) (n : Nat) (ra : Nat → Nat) (md : Int32) (wn : Int32) (od : Nat → Int32) (c : Nat → Int32) (ht : sT) (T : va_W) (k : Nat) (hS : sOK T da n k ra c) (ht0 : tOK ht) (hnm : c 17 = nI n) (hn7m : n ≤ 7) (hkm : c 16 = nI k) (hk12m : k ≤ 12)
    (kk : ∀ (ht1_649 : sT) (th1_663 : Nat → Int32) (wn1_663 : Nat → Int32), (tOK ht1_649) → zJ pX l eX room_1 sX mX argsX blX mtX cX QX 4 (zI D A sX [cOb o ad (sa 0) (sb 0) tr x, mOb om am xm, [(am 5, .inl (D.1 100, 25, .inl c))], [(am 10, .inl (D.1 100, 25, .inl th1_663))], [(am 11, .inl (D.1 100, 25, .inl wn1_663))], thP D sa ((da, n, ra), (md, wn, od), c), thP D sb ht1_649, T, Fr]) (cells + 1) (slots + 10) 1149 [(0, .ref b), (1, .ref o), (2, .ref om), (3, .int (nI i))] []) :
    zJ pX l eX room_1 sX mX argsX blX mtX cX QX 4 (zI D A sX [cOb o ad (sa 0) (sb 0) tr x, mOb om am xm, [(am 5, .inl (D.1 100, 25, .inl c))], [(am 10, .inl (D.1 100, 25, .inl th))], [(am 11, .inl (D.1 100, 25, .inl wm))], thP D sa ((da, n, ra), (md, wn, od), c), thP D sb ht, T, Fr]) cells slots 638 [(0, .ref b), (1, .ref o), (2, .ref om), (3, .int (nI i))] [] := by
  refine z_aload_n (pc := 638) gX 1 dL_law_638 rfl rfl ?_
  refine z_aload_n (pc := 639) gX 0 dL_law_639 rfl rfl ?_
  refine z_iload_n (pc := 640) gX 3 dL_law_640 rfl rfl ?_
  refine z_iconst (pc := 641) gX 1 dL_law_641 (by decide) ?_
  refine z_iadd (pc := 642) gX dL_law_642 ?_
  refine z_top (nI (i + 1)) (nI_add i 1) ?_
  refine z_sld (pc := 643) gX (j := (i + 1)) hX hbl hbA (by omega) hL dL_law_643 ?_
  refine z_aload_n (pc := 644) gX 0 dL_law_644 rfl rfl ?_
  refine z_iload_n (pc := 645) gX 3 dL_law_645 rfl rfl ?_
  refine z_iconst (pc := 646) gX 2 dL_law_646 (by decide) ?_
  refine z_iadd (pc := 647) gX dL_law_647 ?_
  refine z_top (nI (i + 2)) (nI_add i 2) ?_
  refine z_sld (pc := 648) gX (j := (i + 2)) hX hbl hbA (by omega) hL dL_law_648 ?_
  refine z_cMV (pc := 649) gX hAX [.int (xs (i + 1)), .int (xs (i + 2))] [] [0, 5, 6, 7] [1, 2, 3, 4, 8] (fun A1 => met_X0_later l D B0 A1 o ad sa sb tr x da n ra md wn od c T k ht (xs (i + 1)) (xs (i + 2)) (by first | assumption | omega) (by first | assumption | omega)) q995 q996 q997 q47 q998 (zm 0 rfl) (ci := 0) rfl rfl hd_X0_later ⟨rfl, rfl⟩ ⟨(Nat.le_of_ble_eq_true rfl), (Nat.le_of_ble_eq_true rfl)⟩ rfl rfl (zpl 9 rfl (by decide +kernel)) rfl rfl (Nat.le_of_ble_eq_true rfl) ⟨by show _ ≤ (603072 : Nat); omega, by show _ ≤ (7262314 : Nat); omega⟩ dL_law_649 ?_
  intro u649 hu649
  obtain ⟨ht1_649, rfl⟩ : ∃ z, z = u649 := ⟨_, rfl⟩
  have hu649 : tOK ht1_649 := hu649
  refine z_re [0, 4, 5, 6, 7, 1, 2, 3, 8] [cOb o ad (sa 0) (sb 0) tr x, mOb om am xm, [(am 5, .inl (D.1 100, 25, .inl c))], [(am 10, .inl (D.1 100, 25, .inl th))], [(am 11, .inl (D.1 100, 25, .inl wm))], thP D sa ((da, n, ra), (md, wn, od), c), thP D sb ht1_649, T, Fr] rfl (zpl 9 rfl (by decide +kernel)) ?_
  refine z_norm [cOb o ad (sa 0) (sb 0) tr x, mOb om am xm, [(am 5, .inl (D.1 100, 25, .inl c))], [(am 10, .inl (D.1 100, 25, .inl th))], [(am 11, .inl (D.1 100, 25, .inl wm))], thP D sa ((da, n, ra), (md, wn, od), c), thP D sb ht1_649, T, Fr] (cells + 1) (slots + 10) ?_ rfl rfl rfl
  refine z_eq (lv₂ := [(0, .ref b), (1, .ref o), (2, .ref om), (3, .int (nI i))]) (st₂ := [.int (mLater n k c (xs (i + 1)) (xs (i + 2)))]) ?_ rfl rfl
  refine z_aload_n (pc := 652) gX 2 dL_law_652 rfl rfl ?_
  refine z_aload_n (pc := 653) gX 0 dL_law_653 rfl rfl ?_
  refine z_iload_n (pc := 654) gX 3 dL_law_654 rfl rfl ?_
  refine z_iconst (pc := 655) gX 1 dL_law_655 (by decide) ?_
  refine z_iadd (pc := 656) gX dL_law_656 ?_
  refine z_top (nI (i + 1)) (nI_add i 1) ?_
  refine z_sld (pc := 657) gX (j := (i + 1)) hX hbl hbA (by omega) hL dL_law_657 ?_
  refine z_aload_n (pc := 658) gX 0 dL_law_658 rfl rfl ?_
  refine z_iload_n (pc := 659) gX 3 dL_law_659 rfl rfl ?_
  refine z_iconst (pc := 660) gX 2 dL_law_660 (by decide) ?_
  refine z_iadd (pc := 661) gX dL_law_661 ?_
  refine z_top (nI (i + 2)) (nI_add i 2) ?_
  refine z_sld (pc := 662) gX (j := (i + 2)) hX hbl hbA (by omega) hL dL_law_662 ?_
  refine z_cMV (pc := 663) gX hAX [.int (xs (i + 1)), .int (xs (i + 2))] [.int (mLater n k c (xs (i + 1)) (xs (i + 2)))] [1, 2, 3, 4] [0, 5, 6, 7, 8] (fun A1 => met_X4_later l D B0 A1 om am xm c th wm n k (xs (i + 1)) (xs (i + 2)) (by first | assumption | omega) (by first | assumption | omega) (by first | assumption | omega) (by first | assumption | omega)) q1596 q1597 q1598 q54 q1599 (zm 1 rfl) (ci := 4) rfl rfl hd_X4_later ⟨rfl, rfl⟩ ⟨(Nat.le_of_ble_eq_true rfl), (Nat.le_of_ble_eq_true rfl)⟩ rfl rfl (zpl 9 rfl (by decide +kernel)) rfl rfl (Nat.le_of_ble_eq_true rfl) ⟨by show _ ≤ (603072 : Nat); omega, by show _ ≤ (7262314 : Nat); omega⟩ dL_law_663 ?_
  intro u663 hu663
  obtain ⟨th1_663, wn1_663⟩ := u663
  refine z_re [4, 0, 1, 2, 3, 5, 6, 7, 8] [cOb o ad (sa 0) (sb 0) tr x, mOb om am xm, [(am 5, .inl (D.1 100, 25, .inl c))], [(am 10, .inl (D.1 100, 25, .inl th1_663))], [(am 11, .inl (D.1 100, 25, .inl wn1_663))], thP D sa ((da, n, ra), (md, wn, od), c), thP D sb ht1_649, T, Fr] rfl (zpl 9 rfl (by decide +kernel)) ?_
  refine z_eq (lv₂ := [(0, .ref b), (1, .ref o), (2, .ref om), (3, .int (nI i))]) (st₂ := [.int (mLater n k c (xs (i + 1)) (xs (i + 2))), .int (mLater n k c (xs (i + 1)) (xs (i + 2)))]) ?_ rfl rfl
  refine z_icmp_eq (pc := 666) gX 1149 dL_law_666 (by decide) (fun c666 => ?_) (fun c666 => ?_)
  · skip
    exact kk ht1_649 th1_663 wn1_663 hu649
  · skip
    exact absurd rfl c666
set_option maxHeartbeats 4000000 in
theorem law_off {pX : Program} {l : Launch} {eX : Env} {sX : State} {mX : MethodId} {argsX : Array Value} {blX : List Frame} {mtX : Method} {cX : Code} {QX : State → Prop} {D : va_G} {A : Nat → Prop} {B0 cells slots b L i : Nat} {xs : Nat → Int32} {Fr : va_W} (gX : zG pX sX mX argsX mtX cX cL_law 4 "StepRidersLaw" (some .boolean) D B0) (hAX : zA sX A B0) (hX : va_X b L xs sX sX.heap) (hbl : b < sX.heap.size) (hbA : ¬ A b) (hL : L ≤ 384) (hi6 : i + 6 ≤ L) (hl : l.stackTraces = false) (hNP : NatNpe) (hce : cells + 1000 ≤ 603072) (hsl : slots + 9000 ≤ 7262314) (o : Nat) (ad : Nat → Nat) (sa : Nat → Nat) (sb : Nat → Nat) (om : Nat) (am : Nat → Nat) (tr : Nat) (x : Nat → Int32) (xm : Nat → Int32) (th : Nat → Int32) (wm : Nat → Int32) (da : Option Nat) (n : Nat) (ra : Nat → Nat) (md : Int32) (wn : Int32) (od : Nat → Int32) (c : Nat → Int32) (ht : sT) (T : va_W) (k : Nat) (hS : sOK T da n k ra c) (ht0 : tOK ht) (hnm : c 17 = nI n) (hn7m : n ≤ 7) (hkm : c 16 = nI k) (hk12m : k ≤ 12)
    (kk : ∀ (ht1_677 : sT) (th1_686 : Nat → Int32) (wn1_686 : Nat → Int32), (tOK ht1_677) → zJ pX l eX room_1 sX mX argsX blX mtX cX QX 4 (zI D A sX [cOb o ad (sa 0) (sb 0) tr x, mOb om am xm, [(am 5, .inl (D.1 100, 25, .inl c))], [(am 10, .inl (D.1 100, 25, .inl th1_686))], [(am 11, .inl (D.1 100, 25, .inl wn1_686))], thP D sa ((da, n, ra), (md, wn, od), c), thP D sb ht1_677, T, Fr]) (cells + 1) (slots + 10) 1149 [(0, .ref b), (1, .ref o), (2, .ref om), (3, .int (nI i))] []) :
    zJ pX l eX room_1 sX mX argsX blX mtX cX QX 4 (zI D A sX [cOb o ad (sa 0) (sb 0) tr x, mOb om am xm, [(am 5, .inl (D.1 100, 25, .inl c))], [(am 10, .inl (D.1 100, 25, .inl th))], [(am 11, .inl (D.1 100, 25, .inl wm))], thP D sa ((da, n, ra), (md, wn, od), c), thP D sb ht, T, Fr]) cells slots 671 [(0, .ref b), (1, .ref o), (2, .ref om), (3, .int (nI i))] [] := by
  refine z_aload_n (pc := 671) gX 1 dL_law_671 rfl rfl ?_
  refine z_aload_n (pc := 672) gX 0 dL_law_672 rfl rfl ?_
  refine z_iload_n (pc := 673) gX 3 dL_law_673 rfl rfl ?_
  refine z_iconst (pc := 674) gX 1 dL_law_674 (by decide) ?_
  refine z_iadd (pc := 675) gX dL_law_675 ?_
  refine z_top (nI (i + 1)) (nI_add i 1) ?_
  refine z_sld (pc := 676) gX (j := (i + 1)) hX hbl hbA (by omega) hL dL_law_676 ?_
  refine z_cMV (pc := 677) gX hAX [.int (xs (i + 1))] [] [0, 5, 6, 7] [1, 2, 3, 4, 8] (fun A1 => met_X0_off l D B0 A1 o ad sa sb tr x da n ra md wn od c T k ht (xs (i + 1)) (by first | assumption | omega) (by first | assumption | omega)) q999 q1000 q1001 q47 q1002 (zm 0 rfl) (ci := 0) rfl rfl hd_X0_off ⟨rfl, rfl⟩ ⟨(Nat.le_of_ble_eq_true rfl), (Nat.le_of_ble_eq_true rfl)⟩ rfl rfl (zpl 9 rfl (by decide +kernel)) rfl rfl (Nat.le_of_ble_eq_true rfl) ⟨by show _ ≤ (603072 : Nat); omega, by show _ ≤ (7262314 : Nat); omega⟩ dL_law_677 ?_
  intro u677 hu677
  obtain ⟨ht1_677, rfl⟩ : ∃ z, z = u677 := ⟨_, rfl⟩
  have hu677 : tOK ht1_677 := hu677
  refine z_re [0, 4, 5, 6, 7, 1, 2, 3, 8] [cOb o ad (sa 0) (sb 0) tr x, mOb om am xm, [(am 5, .inl (D.1 100, 25, .inl c))], [(am 10, .inl (D.1 100, 25, .inl th))], [(am 11, .inl (D.1 100, 25, .inl wm))], thP D sa ((da, n, ra), (md, wn, od), c), thP D sb ht1_677, T, Fr] rfl (zpl 9 rfl (by decide +kernel)) ?_
  refine z_norm [cOb o ad (sa 0) (sb 0) tr x, mOb om am xm, [(am 5, .inl (D.1 100, 25, .inl c))], [(am 10, .inl (D.1 100, 25, .inl th))], [(am 11, .inl (D.1 100, 25, .inl wm))], thP D sa ((da, n, ra), (md, wn, od), c), thP D sb ht1_677, T, Fr] (cells + 1) (slots + 10) ?_ rfl rfl rfl
  refine z_eq (lv₂ := [(0, .ref b), (1, .ref o), (2, .ref om), (3, .int (nI i))]) (st₂ := [.int (mOff n k c (xs (i + 1)))]) ?_ rfl rfl
  refine z_aload_n (pc := 680) gX 2 dL_law_680 rfl rfl ?_
  refine z_aload_n (pc := 681) gX 0 dL_law_681 rfl rfl ?_
  refine z_iload_n (pc := 682) gX 3 dL_law_682 rfl rfl ?_
  refine z_iconst (pc := 683) gX 1 dL_law_683 (by decide) ?_
  refine z_iadd (pc := 684) gX dL_law_684 ?_
  refine z_top (nI (i + 1)) (nI_add i 1) ?_
  refine z_sld (pc := 685) gX (j := (i + 1)) hX hbl hbA (by omega) hL dL_law_685 ?_
  refine z_cMV (pc := 686) gX hAX [.int (xs (i + 1))] [.int (mOff n k c (xs (i + 1)))] [1, 2, 3, 4] [0, 5, 6, 7, 8] (fun A1 => met_X4_off l D B0 A1 om am xm c th wm n k (xs (i + 1)) (by first | assumption | omega) (by first | assumption | omega) (by first | assumption | omega) (by first | assumption | omega)) q1600 q1601 q1602 q54 q1603 (zm 1 rfl) (ci := 4) rfl rfl hd_X4_off ⟨rfl, rfl⟩ ⟨(Nat.le_of_ble_eq_true rfl), (Nat.le_of_ble_eq_true rfl)⟩ rfl rfl (zpl 9 rfl (by decide +kernel)) rfl rfl (Nat.le_of_ble_eq_true rfl) ⟨by show _ ≤ (603072 : Nat); omega, by show _ ≤ (7262314 : Nat); omega⟩ dL_law_686 ?_
  intro u686 hu686
  obtain ⟨th1_686, wn1_686⟩ := u686
  refine z_re [4, 0, 1, 2, 3, 5, 6, 7, 8] [cOb o ad (sa 0) (sb 0) tr x, mOb om am xm, [(am 5, .inl (D.1 100, 25, .inl c))], [(am 10, .inl (D.1 100, 25, .inl th1_686))], [(am 11, .inl (D.1 100, 25, .inl wn1_686))], thP D sa ((da, n, ra), (md, wn, od), c), thP D sb ht1_677, T, Fr] rfl (zpl 9 rfl (by decide +kernel)) ?_
  refine z_eq (lv₂ := [(0, .ref b), (1, .ref o), (2, .ref om), (3, .int (nI i))]) (st₂ := [.int (mOff n k c (xs (i + 1))), .int (mOff n k c (xs (i + 1)))]) ?_ rfl rfl
  refine z_icmp_eq (pc := 689) gX 1149 dL_law_689 (by decide) (fun c689 => ?_) (fun c689 => ?_)
  · skip
    exact kk ht1_677 th1_686 wn1_686 hu677
  · skip
    exact absurd rfl c689
set_option maxHeartbeats 4000000 in
theorem law_clear {pX : Program} {l : Launch} {eX : Env} {sX : State} {mX : MethodId} {argsX : Array Value} {blX : List Frame} {mtX : Method} {cX : Code} {QX : State → Prop} {D : va_G} {A : Nat → Prop} {B0 cells slots b L i : Nat} {xs : Nat → Int32} {Fr : va_W} (gX : zG pX sX mX argsX mtX cX cL_law 4 "StepRidersLaw" (some .boolean) D B0) (hAX : zA sX A B0) (hX : va_X b L xs sX sX.heap) (hbl : b < sX.heap.size) (hbA : ¬ A b) (hL : L ≤ 384) (hi6 : i + 6 ≤ L) (hl : l.stackTraces = false) (hNP : NatNpe) (hce : cells + 1000 ≤ 603072) (hsl : slots + 9000 ≤ 7262314) (o : Nat) (ad : Nat → Nat) (sa : Nat → Nat) (sb : Nat → Nat) (om : Nat) (am : Nat → Nat) (tr : Nat) (x : Nat → Int32) (xm : Nat → Int32) (th : Nat → Int32) (wm : Nat → Int32) (da : Option Nat) (n : Nat) (ra : Nat → Nat) (md : Int32) (wn : Int32) (od : Nat → Int32) (c : Nat → Int32) (ht : sT) (T : va_W) (k : Nat) (hS : sOK T da n k ra c) (ht0 : tOK ht) (hnm : c 17 = nI n) (hn7m : n ≤ 7) (hkm : c 16 = nI k) (hk12m : k ≤ 12)
    (kk : ∀ (ht1_695 : sT) (th1_699 : Nat → Int32) (wn1_699 : Nat → Int32), (tOK ht1_695) → zJ pX l eX room_1 sX mX argsX blX mtX cX QX 4 (zI D A sX [cOb o ad (sa 0) (sb 0) tr x, mOb om am xm, [(am 5, .inl (D.1 100, 25, .inl c))], [(am 10, .inl (D.1 100, 25, .inl th1_699))], [(am 11, .inl (D.1 100, 25, .inl wn1_699))], thP D sa ((da, n, ra), (md, wn, od), c), thP D sb ht1_695, T, Fr]) (cells + 1) (slots + 10) 1149 [(0, .ref b), (1, .ref o), (2, .ref om), (3, .int (nI i))] []) :
    zJ pX l eX room_1 sX mX argsX blX mtX cX QX 4 (zI D A sX [cOb o ad (sa 0) (sb 0) tr x, mOb om am xm, [(am 5, .inl (D.1 100, 25, .inl c))], [(am 10, .inl (D.1 100, 25, .inl th))], [(am 11, .inl (D.1 100, 25, .inl wm))], thP D sa ((da, n, ra), (md, wn, od), c), thP D sb ht, T, Fr]) cells slots 694 [(0, .ref b), (1, .ref o), (2, .ref om), (3, .int (nI i))] [] := by
  refine z_aload_n (pc := 694) gX 1 dL_law_694 rfl rfl ?_
  refine z_cMV (pc := 695) gX hAX [] [] [0, 5, 6, 7] [1, 2, 3, 4, 8] (fun A1 => met_X0_clear l D B0 A1 o ad sa sb tr x da n ra md wn od c T k ht (by first | assumption | omega) (by first | assumption | omega)) q1004 q1005 q1006 q47 q1007 (zm 0 rfl) (ci := 0) rfl rfl hd_X0_clear ⟨rfl, rfl⟩ ⟨(Nat.le_of_ble_eq_true rfl), (Nat.le_of_ble_eq_true rfl)⟩ rfl rfl (zpl 9 rfl (by decide +kernel)) rfl rfl (Nat.le_of_ble_eq_true rfl) ⟨by show _ ≤ (603072 : Nat); omega, by show _ ≤ (7262314 : Nat); omega⟩ dL_law_695 ?_
  intro u695 hu695
  obtain ⟨ht1_695, rfl⟩ : ∃ z, z = u695 := ⟨_, rfl⟩
  have hu695 : tOK ht1_695 := hu695
  refine z_re [0, 4, 5, 6, 7, 1, 2, 3, 8] [cOb o ad (sa 0) (sb 0) tr x, mOb om am xm, [(am 5, .inl (D.1 100, 25, .inl c))], [(am 10, .inl (D.1 100, 25, .inl th))], [(am 11, .inl (D.1 100, 25, .inl wm))], thP D sa ((da, n, ra), (md, wn, od), c), thP D sb ht1_695, T, Fr] rfl (zpl 9 rfl (by decide +kernel)) ?_
  refine z_norm [cOb o ad (sa 0) (sb 0) tr x, mOb om am xm, [(am 5, .inl (D.1 100, 25, .inl c))], [(am 10, .inl (D.1 100, 25, .inl th))], [(am 11, .inl (D.1 100, 25, .inl wm))], thP D sa ((da, n, ra), (md, wn, od), c), thP D sb ht1_695, T, Fr] (cells + 1) (slots + 10) ?_ rfl rfl rfl
  refine z_eq (lv₂ := [(0, .ref b), (1, .ref o), (2, .ref om), (3, .int (nI i))]) (st₂ := [.int (mClear n k c)]) ?_ rfl rfl
  refine z_aload_n (pc := 698) gX 2 dL_law_698 rfl rfl ?_
  refine z_cMV (pc := 699) gX hAX [] [.int (mClear n k c)] [1, 2, 3, 4] [0, 5, 6, 7, 8] (fun A1 => met_X4_clear l D B0 A1 om am xm c th wm n k (by first | assumption | omega) (by first | assumption | omega) (by first | assumption | omega) (by first | assumption | omega)) q1605 q1606 q1607 q54 q1608 (zm 1 rfl) (ci := 4) rfl rfl hd_X4_clear ⟨rfl, rfl⟩ ⟨(Nat.le_of_ble_eq_true rfl), (Nat.le_of_ble_eq_true rfl)⟩ rfl rfl (zpl 9 rfl (by decide +kernel)) rfl rfl (Nat.le_of_ble_eq_true rfl) ⟨by show _ ≤ (603072 : Nat); omega, by show _ ≤ (7262314 : Nat); omega⟩ dL_law_699 ?_
  intro u699 hu699
  obtain ⟨th1_699, wn1_699⟩ := u699
  refine z_re [4, 0, 1, 2, 3, 5, 6, 7, 8] [cOb o ad (sa 0) (sb 0) tr x, mOb om am xm, [(am 5, .inl (D.1 100, 25, .inl c))], [(am 10, .inl (D.1 100, 25, .inl th1_699))], [(am 11, .inl (D.1 100, 25, .inl wn1_699))], thP D sa ((da, n, ra), (md, wn, od), c), thP D sb ht1_695, T, Fr] rfl (zpl 9 rfl (by decide +kernel)) ?_
  refine z_eq (lv₂ := [(0, .ref b), (1, .ref o), (2, .ref om), (3, .int (nI i))]) (st₂ := [.int (mClear n k c), .int (mClear n k c)]) ?_ rfl rfl
  refine z_icmp_eq (pc := 702) gX 1149 dL_law_702 (by decide) (fun c702 => ?_) (fun c702 => ?_)
  · skip
    exact kk ht1_695 th1_699 wn1_699 hu695
  · skip
    exact absurd rfl c702
set_option maxHeartbeats 4000000 in
theorem law_sorting {pX : Program} {l : Launch} {eX : Env} {sX : State} {mX : MethodId} {argsX : Array Value} {blX : List Frame} {mtX : Method} {cX : Code} {QX : State → Prop} {D : va_G} {A : Nat → Prop} {B0 cells slots b L i : Nat} {xs : Nat → Int32} {Fr : va_W} (gX : zG pX sX mX argsX mtX cX cL_law 4 "StepRidersLaw" (some .boolean) D B0) (hAX : zA sX A B0) (hX : va_X b L xs sX sX.heap) (hbl : b < sX.heap.size) (hbA : ¬ A b) (hL : L ≤ 384) (hi6 : i + 6 ≤ L) (hl : l.stackTraces = false) (hNP : NatNpe) (hce : cells + 1000 ≤ 603072) (hsl : slots + 9000 ≤ 7262314) (o : Nat) (ad : Nat → Nat) (sa : Nat → Nat) (sb : Nat → Nat) (om : Nat) (am : Nat → Nat) (tr : Nat) (x : Nat → Int32) (xm : Nat → Int32) (th : Nat → Int32) (wm : Nat → Int32) (da : Option Nat) (n : Nat) (ra : Nat → Nat) (md : Int32) (wn : Int32) (od : Nat → Int32) (c : Nat → Int32) (ht : sT) (T : va_W) (k : Nat) (hS : sOK T da n k ra c) (ht0 : tOK ht) (hnm : c 17 = nI n) (hn7m : n ≤ 7) (hkm : c 16 = nI k) (hk12m : k ≤ 12)
    (kk : ∀ (ht1_713 : sT) (th1_722 : Nat → Int32) (wn1_722 : Nat → Int32), (tOK ht1_713) → zJ pX l eX room_1 sX mX argsX blX mtX cX QX 4 (zI D A sX [cOb o ad (sa 0) (sb 0) tr x, mOb om am xm, [(am 5, .inl (D.1 100, 25, .inl c))], [(am 10, .inl (D.1 100, 25, .inl th1_722))], [(am 11, .inl (D.1 100, 25, .inl wn1_722))], thP D sa ((da, n, ra), (md, wn, od), c), thP D sb ht1_713, T, Fr]) (cells + 129) (slots + 1290) 1149 [(0, .ref b), (1, .ref o), (2, .ref om), (3, .int (nI i))] []) :
    zJ pX l eX room_1 sX mX argsX blX mtX cX QX 4 (zI D A sX [cOb o ad (sa 0) (sb 0) tr x, mOb om am xm, [(am 5, .inl (D.1 100, 25, .inl c))], [(am 10, .inl (D.1 100, 25, .inl th))], [(am 11, .inl (D.1 100, 25, .inl wm))], thP D sa ((da, n, ra), (md, wn, od), c), thP D sb ht, T, Fr]) cells slots 707 [(0, .ref b), (1, .ref o), (2, .ref om), (3, .int (nI i))] [] := by
  refine z_aload_n (pc := 707) gX 1 dL_law_707 rfl rfl ?_
  refine z_aload_n (pc := 708) gX 0 dL_law_708 rfl rfl ?_
  refine z_iload_n (pc := 709) gX 3 dL_law_709 rfl rfl ?_
  refine z_iconst (pc := 710) gX 1 dL_law_710 (by decide) ?_
  refine z_iadd (pc := 711) gX dL_law_711 ?_
  refine z_top (nI (i + 1)) (nI_add i 1) ?_
  refine z_sld (pc := 712) gX (j := (i + 1)) hX hbl hbA (by omega) hL dL_law_712 ?_
  refine z_cMV (pc := 713) gX hAX [.int (xs (i + 1))] [] [0, 5, 6, 7] [1, 2, 3, 4, 8] (fun A1 => met_X0_sorting l D B0 A1 o ad sa sb tr x da n ra md wn od c T k ht (xs (i + 1)) (by first | assumption | omega) (by first | assumption | omega)) q1013 q1014 q1015 q47 q1016 (zm 0 rfl) (ci := 0) rfl rfl hd_X0_sorting ⟨rfl, rfl⟩ ⟨(Nat.le_of_ble_eq_true rfl), (Nat.le_of_ble_eq_true rfl)⟩ rfl rfl (zpl 9 rfl (by decide +kernel)) rfl rfl (Nat.le_of_ble_eq_true rfl) ⟨by show _ ≤ (603072 : Nat); omega, by show _ ≤ (7262314 : Nat); omega⟩ dL_law_713 ?_
  intro u713 hu713
  obtain ⟨ht1_713, rfl⟩ : ∃ z, z = u713 := ⟨_, rfl⟩
  have hu713 : tOK ht1_713 := hu713
  refine z_re [0, 4, 5, 6, 7, 1, 2, 3, 8] [cOb o ad (sa 0) (sb 0) tr x, mOb om am xm, [(am 5, .inl (D.1 100, 25, .inl c))], [(am 10, .inl (D.1 100, 25, .inl th))], [(am 11, .inl (D.1 100, 25, .inl wm))], thP D sa ((da, n, ra), (md, wn, od), c), thP D sb ht1_713, T, Fr] rfl (zpl 9 rfl (by decide +kernel)) ?_
  refine z_norm [cOb o ad (sa 0) (sb 0) tr x, mOb om am xm, [(am 5, .inl (D.1 100, 25, .inl c))], [(am 10, .inl (D.1 100, 25, .inl th))], [(am 11, .inl (D.1 100, 25, .inl wm))], thP D sa ((da, n, ra), (md, wn, od), c), thP D sb ht1_713, T, Fr] (cells + 129) (slots + 1290) ?_ rfl rfl rfl
  refine z_eq (lv₂ := [(0, .ref b), (1, .ref o), (2, .ref om), (3, .int (nI i))]) (st₂ := [.int (mSorting n k c (xs (i + 1)))]) ?_ rfl rfl
  refine z_aload_n (pc := 716) gX 2 dL_law_716 rfl rfl ?_
  refine z_aload_n (pc := 717) gX 0 dL_law_717 rfl rfl ?_
  refine z_iload_n (pc := 718) gX 3 dL_law_718 rfl rfl ?_
  refine z_iconst (pc := 719) gX 1 dL_law_719 (by decide) ?_
  refine z_iadd (pc := 720) gX dL_law_720 ?_
  refine z_top (nI (i + 1)) (nI_add i 1) ?_
  refine z_sld (pc := 721) gX (j := (i + 1)) hX hbl hbA (by omega) hL dL_law_721 ?_
  refine z_cMV (pc := 722) gX hAX [.int (xs (i + 1))] [.int (mSorting n k c (xs (i + 1)))] [1, 2, 3, 4] [0, 5, 6, 7, 8] (fun A1 => met_X4_sorting l D B0 A1 om am xm c th wm n k (xs (i + 1)) (by first | assumption | omega) (by first | assumption | omega) (by first | assumption | omega) (by first | assumption | omega)) q1613 q1614 q1615 q54 q1616 (zm 1 rfl) (ci := 4) rfl rfl hd_X4_sorting ⟨rfl, rfl⟩ ⟨(Nat.le_of_ble_eq_true rfl), (Nat.le_of_ble_eq_true rfl)⟩ rfl rfl (zpl 9 rfl (by decide +kernel)) rfl rfl (Nat.le_of_ble_eq_true rfl) ⟨by show _ ≤ (603072 : Nat); omega, by show _ ≤ (7262314 : Nat); omega⟩ dL_law_722 ?_
  intro u722 hu722
  obtain ⟨th1_722, wn1_722⟩ := u722
  refine z_re [4, 0, 1, 2, 3, 5, 6, 7, 8] [cOb o ad (sa 0) (sb 0) tr x, mOb om am xm, [(am 5, .inl (D.1 100, 25, .inl c))], [(am 10, .inl (D.1 100, 25, .inl th1_722))], [(am 11, .inl (D.1 100, 25, .inl wn1_722))], thP D sa ((da, n, ra), (md, wn, od), c), thP D sb ht1_713, T, Fr] rfl (zpl 9 rfl (by decide +kernel)) ?_
  refine z_eq (lv₂ := [(0, .ref b), (1, .ref o), (2, .ref om), (3, .int (nI i))]) (st₂ := [.int (mSorting n k c (xs (i + 1))), .int (mSorting n k c (xs (i + 1)))]) ?_ rfl rfl
  refine z_icmp_eq (pc := 725) gX 1149 dL_law_725 (by decide) (fun c725 => ?_) (fun c725 => ?_)
  · skip
    exact kk ht1_713 th1_722 wn1_722 hu713
  · skip
    exact absurd rfl c725
set_option maxHeartbeats 4000000 in
theorem law_taken {pX : Program} {l : Launch} {eX : Env} {sX : State} {mX : MethodId} {argsX : Array Value} {blX : List Frame} {mtX : Method} {cX : Code} {QX : State → Prop} {D : va_G} {A : Nat → Prop} {B0 cells slots b L i : Nat} {xs : Nat → Int32} {Fr : va_W} (gX : zG pX sX mX argsX mtX cX cL_law 4 "StepRidersLaw" (some .boolean) D B0) (hAX : zA sX A B0) (hX : va_X b L xs sX sX.heap) (hbl : b < sX.heap.size) (hbA : ¬ A b) (hL : L ≤ 384) (hi6 : i + 6 ≤ L) (hl : l.stackTraces = false) (hNP : NatNpe) (hce : cells + 1000 ≤ 603072) (hsl : slots + 9000 ≤ 7262314) (o : Nat) (ad : Nat → Nat) (sa : Nat → Nat) (sb : Nat → Nat) (om : Nat) (am : Nat → Nat) (tr : Nat) (x : Nat → Int32) (xm : Nat → Int32) (th : Nat → Int32) (wm : Nat → Int32) (da : Option Nat) (n : Nat) (ra : Nat → Nat) (md : Int32) (wn : Int32) (od : Nat → Int32) (c : Nat → Int32) (ht : sT) (T : va_W) (k : Nat) (hS : sOK T da n k ra c) (ht0 : tOK ht) (hnm : c 17 = nI n) (hn7m : n ≤ 7) (hkm : c 16 = nI k) (hk12m : k ≤ 12)
    (kk : ∀ (ht1_736 : sT) (th1_745 : Nat → Int32) (wn1_745 : Nat → Int32), (tOK ht1_736) → zJ pX l eX room_1 sX mX argsX blX mtX cX QX 4 (zI D A sX [cOb o ad (sa 0) (sb 0) tr x, mOb om am xm, [(am 5, .inl (D.1 100, 25, .inl c))], [(am 10, .inl (D.1 100, 25, .inl th1_745))], [(am 11, .inl (D.1 100, 25, .inl wn1_745))], thP D sa ((da, n, ra), (md, wn, od), c), thP D sb ht1_736, T, Fr]) (cells + 8) (slots + 80) 1149 [(0, .ref b), (1, .ref o), (2, .ref om), (3, .int (nI i))] []) :
    zJ pX l eX room_1 sX mX argsX blX mtX cX QX 4 (zI D A sX [cOb o ad (sa 0) (sb 0) tr x, mOb om am xm, [(am 5, .inl (D.1 100, 25, .inl c))], [(am 10, .inl (D.1 100, 25, .inl th))], [(am 11, .inl (D.1 100, 25, .inl wm))], thP D sa ((da, n, ra), (md, wn, od), c), thP D sb ht, T, Fr]) cells slots 730 [(0, .ref b), (1, .ref o), (2, .ref om), (3, .int (nI i))] [] := by
  refine z_aload_n (pc := 730) gX 1 dL_law_730 rfl rfl ?_
  refine z_aload_n (pc := 731) gX 0 dL_law_731 rfl rfl ?_
  refine z_iload_n (pc := 732) gX 3 dL_law_732 rfl rfl ?_
  refine z_iconst (pc := 733) gX 1 dL_law_733 (by decide) ?_
  refine z_iadd (pc := 734) gX dL_law_734 ?_
  refine z_top (nI (i + 1)) (nI_add i 1) ?_
  refine z_sld (pc := 735) gX (j := (i + 1)) hX hbl hbA (by omega) hL dL_law_735 ?_
  refine z_cMV (pc := 736) gX hAX [.int (xs (i + 1))] [] [0, 5, 6, 7] [1, 2, 3, 4, 8] (fun A1 => met_X0_taken l D B0 A1 o ad sa sb tr x da n ra md wn od c T k ht (xs (i + 1)) (by first | assumption | omega) (by first | assumption | omega)) q1022 q1023 q1024 q47 q1025 (zm 0 rfl) (ci := 0) rfl rfl hd_X0_taken ⟨rfl, rfl⟩ ⟨(Nat.le_of_ble_eq_true rfl), (Nat.le_of_ble_eq_true rfl)⟩ rfl rfl (zpl 9 rfl (by decide +kernel)) rfl rfl (Nat.le_of_ble_eq_true rfl) ⟨by show _ ≤ (603072 : Nat); omega, by show _ ≤ (7262314 : Nat); omega⟩ dL_law_736 ?_
  intro u736 hu736
  obtain ⟨ht1_736, rfl⟩ : ∃ z, z = u736 := ⟨_, rfl⟩
  have hu736 : tOK ht1_736 := hu736
  refine z_re [0, 4, 5, 6, 7, 1, 2, 3, 8] [cOb o ad (sa 0) (sb 0) tr x, mOb om am xm, [(am 5, .inl (D.1 100, 25, .inl c))], [(am 10, .inl (D.1 100, 25, .inl th))], [(am 11, .inl (D.1 100, 25, .inl wm))], thP D sa ((da, n, ra), (md, wn, od), c), thP D sb ht1_736, T, Fr] rfl (zpl 9 rfl (by decide +kernel)) ?_
  refine z_norm [cOb o ad (sa 0) (sb 0) tr x, mOb om am xm, [(am 5, .inl (D.1 100, 25, .inl c))], [(am 10, .inl (D.1 100, 25, .inl th))], [(am 11, .inl (D.1 100, 25, .inl wm))], thP D sa ((da, n, ra), (md, wn, od), c), thP D sb ht1_736, T, Fr] (cells + 8) (slots + 80) ?_ rfl rfl rfl
  refine z_eq (lv₂ := [(0, .ref b), (1, .ref o), (2, .ref om), (3, .int (nI i))]) (st₂ := [.int (mTaken n k c (xs (i + 1)))]) ?_ rfl rfl
  refine z_aload_n (pc := 739) gX 2 dL_law_739 rfl rfl ?_
  refine z_aload_n (pc := 740) gX 0 dL_law_740 rfl rfl ?_
  refine z_iload_n (pc := 741) gX 3 dL_law_741 rfl rfl ?_
  refine z_iconst (pc := 742) gX 1 dL_law_742 (by decide) ?_
  refine z_iadd (pc := 743) gX dL_law_743 ?_
  refine z_top (nI (i + 1)) (nI_add i 1) ?_
  refine z_sld (pc := 744) gX (j := (i + 1)) hX hbl hbA (by omega) hL dL_law_744 ?_
  refine z_cMV (pc := 745) gX hAX [.int (xs (i + 1))] [.int (mTaken n k c (xs (i + 1)))] [1, 2, 3, 4] [0, 5, 6, 7, 8] (fun A1 => met_X4_taken l D B0 A1 om am xm c th wm n k (xs (i + 1)) (by first | assumption | omega) (by first | assumption | omega) (by first | assumption | omega) (by first | assumption | omega)) q1624 q1625 q1626 q54 q1627 (zm 1 rfl) (ci := 4) rfl rfl hd_X4_taken ⟨rfl, rfl⟩ ⟨(Nat.le_of_ble_eq_true rfl), (Nat.le_of_ble_eq_true rfl)⟩ rfl rfl (zpl 9 rfl (by decide +kernel)) rfl rfl (Nat.le_of_ble_eq_true rfl) ⟨by show _ ≤ (603072 : Nat); omega, by show _ ≤ (7262314 : Nat); omega⟩ dL_law_745 ?_
  intro u745 hu745
  obtain ⟨th1_745, wn1_745⟩ := u745
  refine z_re [4, 0, 1, 2, 3, 5, 6, 7, 8] [cOb o ad (sa 0) (sb 0) tr x, mOb om am xm, [(am 5, .inl (D.1 100, 25, .inl c))], [(am 10, .inl (D.1 100, 25, .inl th1_745))], [(am 11, .inl (D.1 100, 25, .inl wn1_745))], thP D sa ((da, n, ra), (md, wn, od), c), thP D sb ht1_736, T, Fr] rfl (zpl 9 rfl (by decide +kernel)) ?_
  refine z_eq (lv₂ := [(0, .ref b), (1, .ref o), (2, .ref om), (3, .int (nI i))]) (st₂ := [.int (mTaken n k c (xs (i + 1))), .int (mTaken n k c (xs (i + 1)))]) ?_ rfl rfl
  refine z_icmp_eq (pc := 748) gX 1149 dL_law_748 (by decide) (fun c748 => ?_) (fun c748 => ?_)
  · skip
    exact kk ht1_736 th1_745 wn1_745 hu736
  · skip
    exact absurd rfl c748
set_option maxHeartbeats 4000000 in
theorem law_pace {pX : Program} {l : Launch} {eX : Env} {sX : State} {mX : MethodId} {argsX : Array Value} {blX : List Frame} {mtX : Method} {cX : Code} {QX : State → Prop} {D : va_G} {A : Nat → Prop} {B0 cells slots b L i : Nat} {xs : Nat → Int32} {Fr : va_W} (gX : zG pX sX mX argsX mtX cX cL_law 4 "StepRidersLaw" (some .boolean) D B0) (hAX : zA sX A B0) (hX : va_X b L xs sX sX.heap) (hbl : b < sX.heap.size) (hbA : ¬ A b) (hL : L ≤ 384) (hi6 : i + 6 ≤ L) (hl : l.stackTraces = false) (hNP : NatNpe) (hce : cells + 1000 ≤ 603072) (hsl : slots + 9000 ≤ 7262314) (o : Nat) (ad : Nat → Nat) (sa : Nat → Nat) (sb : Nat → Nat) (om : Nat) (am : Nat → Nat) (tr : Nat) (x : Nat → Int32) (tg : Nat → Int32) (bf : Nat → Int32) (xm : Nat → Int32) (th : Nat → Int32) (wm : Nat → Int32) (da : Option Nat) (n : Nat) (ra : Nat → Nat) (md : Int32) (wn : Int32) (od : Nat → Int32) (c : Nat → Int32) (ht : sT) (T : va_W) (k : Nat) (hS : sOK T da n k ra c) (ht0 : tOK ht) (hnm : c 17 = nI n) (hn7m : n ≤ 7) (hkm : c 16 = nI k) (hk12m : k ≤ 12)
    (kk : ∀ (tf1_769 : Nat → Int32) (bf1_769 : Nat → Int32) (l1_769 : Int32) (ht1_769 : sT) (th1_788 : Nat → Int32) (wn1_788 : Nat → Int32), (tOK ht1_769) → zJ pX l eX room_1 sX mX argsX blX mtX cX QX 4 (zI D A sX [cOb o ad (sa 0) (sb 0) tr (upd x 4 l1_769), [(ad 4, .inl (D.1 100, 6, .inl tf1_769))], [(ad 5, .inl (D.1 100, 6, .inl bf1_769))], mOb om am xm, [(am 5, .inl (D.1 100, 25, .inl c))], [(am 10, .inl (D.1 100, 25, .inl th1_788))], [(am 11, .inl (D.1 100, 25, .inl wn1_788))], thP D sa ((da, n, ra), (md, wn, od), c), thP D sb ht1_769, T, Fr]) (cells + 729) (slots + 7290) 1149 [(0, .ref b), (1, .ref o), (2, .ref om), (3, .int (nI i))] []) :
    zJ pX l eX room_1 sX mX argsX blX mtX cX QX 4 (zI D A sX [cOb o ad (sa 0) (sb 0) tr x, [(ad 4, .inl (D.1 100, 6, .inl tg))], [(ad 5, .inl (D.1 100, 6, .inl bf))], mOb om am xm, [(am 5, .inl (D.1 100, 25, .inl c))], [(am 10, .inl (D.1 100, 25, .inl th))], [(am 11, .inl (D.1 100, 25, .inl wm))], thP D sa ((da, n, ra), (md, wn, od), c), thP D sb ht, T, Fr]) cells slots 753 [(0, .ref b), (1, .ref o), (2, .ref om), (3, .int (nI i))] [] := by
  refine z_aload_n (pc := 753) gX 1 dL_law_753 rfl rfl ?_
  refine z_aload_n (pc := 754) gX 0 dL_law_754 rfl rfl ?_
  refine z_iload_n (pc := 755) gX 3 dL_law_755 rfl rfl ?_
  refine z_iconst (pc := 756) gX 1 dL_law_756 (by decide) ?_
  refine z_iadd (pc := 757) gX dL_law_757 ?_
  refine z_top (nI (i + 1)) (nI_add i 1) ?_
  refine z_sld (pc := 758) gX (j := (i + 1)) hX hbl hbA (by omega) hL dL_law_758 ?_
  refine z_aload_n (pc := 759) gX 0 dL_law_759 rfl rfl ?_
  refine z_iload_n (pc := 760) gX 3 dL_law_760 rfl rfl ?_
  refine z_iconst (pc := 761) gX 2 dL_law_761 (by decide) ?_
  refine z_iadd (pc := 762) gX dL_law_762 ?_
  refine z_top (nI (i + 2)) (nI_add i 2) ?_
  refine z_sld (pc := 763) gX (j := (i + 2)) hX hbl hbA (by omega) hL dL_law_763 ?_
  refine z_aload_n (pc := 764) gX 0 dL_law_764 rfl rfl ?_
  refine z_iload_n (pc := 765) gX 3 dL_law_765 rfl rfl ?_
  refine z_iconst (pc := 766) gX 3 dL_law_766 (by decide) ?_
  refine z_iadd (pc := 767) gX dL_law_767 ?_
  refine z_top (nI (i + 3)) (nI_add i 3) ?_
  refine z_sld (pc := 768) gX (j := (i + 3)) hX hbl hbA (by omega) hL dL_law_768 ?_
  refine z_cMV (pc := 769) gX hAX [.int (xs (i + 1)), .int (xs (i + 2)), .int (xs (i + 3))] [] [0, 1, 2, 7, 8, 9] [3, 4, 5, 6, 10] (fun A1 => met_X0_pace l D B0 A1 o ad sa sb tr x da n ra md wn od c T k ht tg bf (xs (i + 1)) (xs (i + 2)) (xs (i + 3)) (by first | assumption | omega) (by first | assumption | omega)) q1026 q1027 q1028 q47 q1029 (zm 0 rfl) (ci := 0) rfl rfl hd_X0_pace ⟨rfl, rfl⟩ ⟨(Nat.le_of_ble_eq_true rfl), (Nat.le_of_ble_eq_true rfl)⟩ rfl rfl (zpl 11 rfl (by decide +kernel)) rfl rfl (Nat.le_of_ble_eq_true rfl) ⟨by show _ ≤ (603072 : Nat); omega, by show _ ≤ (7262314 : Nat); omega⟩ dL_law_769 ?_
  intro u769 hu769
  obtain ⟨tf1_769, bf1_769, l1_769, ht1_769⟩ := u769
  have hu769 : tOK ht1_769 := hu769
  refine z_re [0, 1, 2, 6, 7, 8, 9, 3, 4, 5, 10] [cOb o ad (sa 0) (sb 0) tr (upd x 4 l1_769), [(ad 4, .inl (D.1 100, 6, .inl tf1_769))], [(ad 5, .inl (D.1 100, 6, .inl bf1_769))], mOb om am xm, [(am 5, .inl (D.1 100, 25, .inl c))], [(am 10, .inl (D.1 100, 25, .inl th))], [(am 11, .inl (D.1 100, 25, .inl wm))], thP D sa ((da, n, ra), (md, wn, od), c), thP D sb ht1_769, T, Fr] rfl (zpl 11 rfl (by decide +kernel)) ?_
  refine z_norm [cOb o ad (sa 0) (sb 0) tr (upd x 4 l1_769), [(ad 4, .inl (D.1 100, 6, .inl tf1_769))], [(ad 5, .inl (D.1 100, 6, .inl bf1_769))], mOb om am xm, [(am 5, .inl (D.1 100, 25, .inl c))], [(am 10, .inl (D.1 100, 25, .inl th))], [(am 11, .inl (D.1 100, 25, .inl wm))], thP D sa ((da, n, ra), (md, wn, od), c), thP D sb ht1_769, T, Fr] (cells + 729) (slots + 7290) ?_ rfl rfl rfl
  refine z_eq (lv₂ := [(0, .ref b), (1, .ref o), (2, .ref om), (3, .int (nI i))]) (st₂ := [.int (mPace n k c (xs (i + 1)) (xs (i + 2)) (xs (i + 3)))]) ?_ rfl rfl
  refine z_aload_n (pc := 772) gX 2 dL_law_772 rfl rfl ?_
  refine z_aload_n (pc := 773) gX 0 dL_law_773 rfl rfl ?_
  refine z_iload_n (pc := 774) gX 3 dL_law_774 rfl rfl ?_
  refine z_iconst (pc := 775) gX 1 dL_law_775 (by decide) ?_
  refine z_iadd (pc := 776) gX dL_law_776 ?_
  refine z_top (nI (i + 1)) (nI_add i 1) ?_
  refine z_sld (pc := 777) gX (j := (i + 1)) hX hbl hbA (by omega) hL dL_law_777 ?_
  refine z_aload_n (pc := 778) gX 0 dL_law_778 rfl rfl ?_
  refine z_iload_n (pc := 779) gX 3 dL_law_779 rfl rfl ?_
  refine z_iconst (pc := 780) gX 2 dL_law_780 (by decide) ?_
  refine z_iadd (pc := 781) gX dL_law_781 ?_
  refine z_top (nI (i + 2)) (nI_add i 2) ?_
  refine z_sld (pc := 782) gX (j := (i + 2)) hX hbl hbA (by omega) hL dL_law_782 ?_
  refine z_aload_n (pc := 783) gX 0 dL_law_783 rfl rfl ?_
  refine z_iload_n (pc := 784) gX 3 dL_law_784 rfl rfl ?_
  refine z_iconst (pc := 785) gX 3 dL_law_785 (by decide) ?_
  refine z_iadd (pc := 786) gX dL_law_786 ?_
  refine z_top (nI (i + 3)) (nI_add i 3) ?_
  refine z_sld (pc := 787) gX (j := (i + 3)) hX hbl hbA (by omega) hL dL_law_787 ?_
  refine z_cMV (pc := 788) gX hAX [.int (xs (i + 1)), .int (xs (i + 2)), .int (xs (i + 3))] [.int (mPace n k c (xs (i + 1)) (xs (i + 2)) (xs (i + 3)))] [3, 4, 5, 6] [0, 1, 2, 7, 8, 9, 10] (fun A1 => met_X4_pace l D B0 A1 om am xm c th wm n k (xs (i + 1)) (xs (i + 2)) (xs (i + 3)) (by first | assumption | omega) (by first | assumption | omega) (by first | assumption | omega) (by first | assumption | omega)) q1628 q1629 q1630 q54 q1631 (zm 3 rfl) (ci := 4) rfl rfl hd_X4_pace ⟨rfl, rfl⟩ ⟨(Nat.le_of_ble_eq_true rfl), (Nat.le_of_ble_eq_true rfl)⟩ rfl rfl (zpl 11 rfl (by decide +kernel)) rfl rfl (Nat.le_of_ble_eq_true rfl) ⟨by show _ ≤ (603072 : Nat); omega, by show _ ≤ (7262314 : Nat); omega⟩ dL_law_788 ?_
  intro u788 hu788
  obtain ⟨th1_788, wn1_788⟩ := u788
  refine z_re [4, 5, 6, 0, 1, 2, 3, 7, 8, 9, 10] [cOb o ad (sa 0) (sb 0) tr (upd x 4 l1_769), [(ad 4, .inl (D.1 100, 6, .inl tf1_769))], [(ad 5, .inl (D.1 100, 6, .inl bf1_769))], mOb om am xm, [(am 5, .inl (D.1 100, 25, .inl c))], [(am 10, .inl (D.1 100, 25, .inl th1_788))], [(am 11, .inl (D.1 100, 25, .inl wn1_788))], thP D sa ((da, n, ra), (md, wn, od), c), thP D sb ht1_769, T, Fr] rfl (zpl 11 rfl (by decide +kernel)) ?_
  refine z_eq (lv₂ := [(0, .ref b), (1, .ref o), (2, .ref om), (3, .int (nI i))]) (st₂ := [.int (mPace n k c (xs (i + 1)) (xs (i + 2)) (xs (i + 3))), .int (mPace n k c (xs (i + 1)) (xs (i + 2)) (xs (i + 3)))]) ?_ rfl rfl
  refine z_icmp_eq (pc := 791) gX 1149 dL_law_791 (by decide) (fun c791 => ?_) (fun c791 => ?_)
  · skip
    exact kk tf1_769 bf1_769 l1_769 ht1_769 th1_788 wn1_788 hu769
  · skip
    exact absurd rfl c791
set_option maxHeartbeats 4000000 in
theorem law_fits {pX : Program} {l : Launch} {eX : Env} {sX : State} {mX : MethodId} {argsX : Array Value} {blX : List Frame} {mtX : Method} {cX : Code} {QX : State → Prop} {D : va_G} {A : Nat → Prop} {B0 cells slots b L i : Nat} {xs : Nat → Int32} {Fr : va_W} (gX : zG pX sX mX argsX mtX cX cL_law 4 "StepRidersLaw" (some .boolean) D B0) (hAX : zA sX A B0) (hX : va_X b L xs sX sX.heap) (hbl : b < sX.heap.size) (hbA : ¬ A b) (hL : L ≤ 384) (hi6 : i + 6 ≤ L) (hl : l.stackTraces = false) (hNP : NatNpe) (hce : cells + 1000 ≤ 603072) (hsl : slots + 9000 ≤ 7262314) (o : Nat) (ad : Nat → Nat) (sa : Nat → Nat) (sb : Nat → Nat) (sh : Nat → Nat) (om : Nat) (am : Nat → Nat) (tr : Nat) (x : Nat → Int32) (xm : Nat → Int32) (sz : Nat → Int32) (wd : Nat → Int32) (it : Nat → Int32) (th : Nat → Int32) (wm : Nat → Int32) (da : Option Nat) (n : Nat) (ra : Nat → Nat) (md : Int32) (wn : Int32) (od : Nat → Int32) (c : Nat → Int32) (ht : sT) (rw : Nat → rT) (T : va_W) (k : Nat) (hS : sOK T da n k ra c) (ht0 : tOK ht) (hx3 : x 3 = xm 0) (hW : rwR rw sz wd it) (hszm : ∀ q : Nat, q < 8 → sz q ≤ 40) (hnm : c 17 = nI n) (hn7m : n ≤ 7) (hkm : c 16 = nI k) (hk12m : k ≤ 12) (hk1m : 0 < n → 1 ≤ k)
    (kk : ∀ (r__822 : Int32) (xm1_822 : Nat → Int32) (ht1_822 : sT) (T1_822 : va_W) (th1_851 : Nat → Int32) (wn1_851 : Nat → Int32), ((r__822, xm1_822) = mFits n k xm sz it c (xs (i + 1)) (xs (i + 2)) (xs (i + 3)) (xs (i + 4)) (xs (i + 5)) ∧ tOK ht1_822 ∧ (∀ z ∈ T, z ∈ T1_822)) → zJ pX l eX room_1 sX mX argsX blX mtX cX QX 4 (zI D A sX [cOb o ad (sa 0) (sb 0) tr (upd x 3 (xm1_822 0)), [(ad 0, .inl (D.1 105, 8, .inr (.inr (.inr (.inr (rF sh 8))))))], mOb om am xm1_822, [(am 0, .inl (D.1 100, 8, .inl sz))], [(am 2, .inl (D.1 100, 320, .inl it))], [(am 5, .inl (D.1 100, 25, .inl c))], [(am 10, .inl (D.1 100, 25, .inl th1_851))], [(am 11, .inl (D.1 100, 25, .inl wn1_851))], thP D sa ((da, n, ra), (md, wn, od), c), thP D sb ht1_822, slP D sh rw 8, T1_822, Fr]) (cells + 30) (slots + 300) 1149 [(0, .ref b), (1, .ref o), (2, .ref om), (3, .int (nI i))] []) :
    zJ pX l eX room_1 sX mX argsX blX mtX cX QX 4 (zI D A sX [cOb o ad (sa 0) (sb 0) tr x, [(ad 0, .inl (D.1 105, 8, .inr (.inr (.inr (.inr (rF sh 8))))))], mOb om am xm, [(am 0, .inl (D.1 100, 8, .inl sz))], [(am 2, .inl (D.1 100, 320, .inl it))], [(am 5, .inl (D.1 100, 25, .inl c))], [(am 10, .inl (D.1 100, 25, .inl th))], [(am 11, .inl (D.1 100, 25, .inl wm))], thP D sa ((da, n, ra), (md, wn, od), c), thP D sb ht, slP D sh rw 8, T, Fr]) cells slots 796 [(0, .ref b), (1, .ref o), (2, .ref om), (3, .int (nI i))] [] := by
  refine z_aload_n (pc := 796) gX 1 dL_law_796 rfl rfl ?_
  refine z_aload_n (pc := 797) gX 0 dL_law_797 rfl rfl ?_
  refine z_iload_n (pc := 798) gX 3 dL_law_798 rfl rfl ?_
  refine z_iconst (pc := 799) gX 1 dL_law_799 (by decide) ?_
  refine z_iadd (pc := 800) gX dL_law_800 ?_
  refine z_top (nI (i + 1)) (nI_add i 1) ?_
  refine z_sld (pc := 801) gX (j := (i + 1)) hX hbl hbA (by omega) hL dL_law_801 ?_
  refine z_aload_n (pc := 802) gX 0 dL_law_802 rfl rfl ?_
  refine z_iload_n (pc := 803) gX 3 dL_law_803 rfl rfl ?_
  refine z_iconst (pc := 804) gX 2 dL_law_804 (by decide) ?_
  refine z_iadd (pc := 805) gX dL_law_805 ?_
  refine z_top (nI (i + 2)) (nI_add i 2) ?_
  refine z_sld (pc := 806) gX (j := (i + 2)) hX hbl hbA (by omega) hL dL_law_806 ?_
  refine z_aload_n (pc := 807) gX 0 dL_law_807 rfl rfl ?_
  refine z_iload_n (pc := 808) gX 3 dL_law_808 rfl rfl ?_
  refine z_iconst (pc := 809) gX 3 dL_law_809 (by decide) ?_
  refine z_iadd (pc := 810) gX dL_law_810 ?_
  refine z_top (nI (i + 3)) (nI_add i 3) ?_
  refine z_sld (pc := 811) gX (j := (i + 3)) hX hbl hbA (by omega) hL dL_law_811 ?_
  refine z_aload_n (pc := 812) gX 0 dL_law_812 rfl rfl ?_
  refine z_iload_n (pc := 813) gX 3 dL_law_813 rfl rfl ?_
  refine z_iconst (pc := 814) gX 4 dL_law_814 (by decide) ?_
  refine z_iadd (pc := 815) gX dL_law_815 ?_
  refine z_top (nI (i + 4)) (nI_add i 4) ?_
  refine z_sld (pc := 816) gX (j := (i + 4)) hX hbl hbA (by omega) hL dL_law_816 ?_
  refine z_aload_n (pc := 817) gX 0 dL_law_817 rfl rfl ?_
  refine z_iload_n (pc := 818) gX 3 dL_law_818 rfl rfl ?_
  refine z_iconst (pc := 819) gX 5 dL_law_819 (by decide) ?_
  refine z_iadd (pc := 820) gX dL_law_820 ?_
  refine z_top (nI (i + 5)) (nI_add i 5) ?_
  refine z_sld (pc := 821) gX (j := (i + 5)) hX hbl hbA (by omega) hL dL_law_821 ?_
  refine z_cMVW (pc := 822) gX hAX [.int (xs (i + 1)), .int (xs (i + 2)), .int (xs (i + 3)), .int (xs (i + 4)), .int (xs (i + 5))] [] [0, 1, 8, 9, 10, 11] [2, 3, 4, 5, 6, 7, 12] (fun A1 => met_X0_fits l D B0 A1 o ad sa sb tr x da n ra md wn od c T k ht sh rw xm sz wd it (xs (i + 1)) (xs (i + 2)) (xs (i + 3)) (xs (i + 4)) (xs (i + 5)) (by first | assumption | omega) (by first | assumption | omega) (by first | assumption | omega) (by first | assumption | omega) (by first | assumption | omega)) q1035 q1036 q1037 q47 q1038 (zm 0 rfl) (ci := 0) rfl rfl hd_X0_fits ⟨rfl, rfl⟩ ⟨(Nat.le_of_ble_eq_true rfl), (Nat.le_of_ble_eq_true rfl)⟩ rfl rfl (zpl 13 rfl (by decide +kernel)) rfl rfl (Nat.le_of_ble_eq_true rfl) ⟨by show _ ≤ (603072 : Nat); omega, by show _ ≤ (7262314 : Nat); omega⟩ dL_law_822 ?_
  intro u822 hu822
  obtain ⟨r__822, xm1_822, ht1_822, T1_822⟩ := u822
  have hu822 : (r__822, xm1_822) = mFits n k xm sz it c (xs (i + 1)) (xs (i + 2)) (xs (i + 3)) (xs (i + 4)) (xs (i + 5)) ∧ tOK ht1_822 ∧ (∀ z ∈ T, z ∈ T1_822) := hu822
  refine z_re [0, 1, 6, 7, 8, 9, 10, 11, 2, 3, 4, 5, 12] [cOb o ad (sa 0) (sb 0) tr (upd x 3 (xm1_822 0)), [(ad 0, .inl (D.1 105, 8, .inr (.inr (.inr (.inr (rF sh 8))))))], mOb om am xm, [(am 0, .inl (D.1 100, 8, .inl sz))], [(am 2, .inl (D.1 100, 320, .inl it))], [(am 5, .inl (D.1 100, 25, .inl c))], [(am 10, .inl (D.1 100, 25, .inl th))], [(am 11, .inl (D.1 100, 25, .inl wm))], thP D sa ((da, n, ra), (md, wn, od), c), thP D sb ht1_822, slP D sh rw 8, T1_822, Fr] rfl (zpl 13 rfl (by decide +kernel)) ?_
  refine z_norm [cOb o ad (sa 0) (sb 0) tr (upd x 3 (xm1_822 0)), [(ad 0, .inl (D.1 105, 8, .inr (.inr (.inr (.inr (rF sh 8))))))], mOb om am xm, [(am 0, .inl (D.1 100, 8, .inl sz))], [(am 2, .inl (D.1 100, 320, .inl it))], [(am 5, .inl (D.1 100, 25, .inl c))], [(am 10, .inl (D.1 100, 25, .inl th))], [(am 11, .inl (D.1 100, 25, .inl wm))], thP D sa ((da, n, ra), (md, wn, od), c), thP D sb ht1_822, slP D sh rw 8, T1_822, Fr] (cells + 30) (slots + 300) ?_ rfl rfl rfl
  refine z_eq (lv₂ := [(0, .ref b), (1, .ref o), (2, .ref om), (3, .int (nI i))]) (st₂ := [.int r__822]) ?_ rfl rfl
  refine z_aload_n (pc := 825) gX 2 dL_law_825 rfl rfl ?_
  refine z_aload_n (pc := 826) gX 0 dL_law_826 rfl rfl ?_
  refine z_iload_n (pc := 827) gX 3 dL_law_827 rfl rfl ?_
  refine z_iconst (pc := 828) gX 1 dL_law_828 (by decide) ?_
  refine z_iadd (pc := 829) gX dL_law_829 ?_
  refine z_top (nI (i + 1)) (nI_add i 1) ?_
  refine z_sld (pc := 830) gX (j := (i + 1)) hX hbl hbA (by omega) hL dL_law_830 ?_
  refine z_aload_n (pc := 831) gX 0 dL_law_831 rfl rfl ?_
  refine z_iload_n (pc := 832) gX 3 dL_law_832 rfl rfl ?_
  refine z_iconst (pc := 833) gX 2 dL_law_833 (by decide) ?_
  refine z_iadd (pc := 834) gX dL_law_834 ?_
  refine z_top (nI (i + 2)) (nI_add i 2) ?_
  refine z_sld (pc := 835) gX (j := (i + 2)) hX hbl hbA (by omega) hL dL_law_835 ?_
  refine z_aload_n (pc := 836) gX 0 dL_law_836 rfl rfl ?_
  refine z_iload_n (pc := 837) gX 3 dL_law_837 rfl rfl ?_
  refine z_iconst (pc := 838) gX 3 dL_law_838 (by decide) ?_
  refine z_iadd (pc := 839) gX dL_law_839 ?_
  refine z_top (nI (i + 3)) (nI_add i 3) ?_
  refine z_sld (pc := 840) gX (j := (i + 3)) hX hbl hbA (by omega) hL dL_law_840 ?_
  refine z_aload_n (pc := 841) gX 0 dL_law_841 rfl rfl ?_
  refine z_iload_n (pc := 842) gX 3 dL_law_842 rfl rfl ?_
  refine z_iconst (pc := 843) gX 4 dL_law_843 (by decide) ?_
  refine z_iadd (pc := 844) gX dL_law_844 ?_
  refine z_top (nI (i + 4)) (nI_add i 4) ?_
  refine z_sld (pc := 845) gX (j := (i + 4)) hX hbl hbA (by omega) hL dL_law_845 ?_
  refine z_aload_n (pc := 846) gX 0 dL_law_846 rfl rfl ?_
  refine z_iload_n (pc := 847) gX 3 dL_law_847 rfl rfl ?_
  refine z_iconst (pc := 848) gX 5 dL_law_848 (by decide) ?_
  refine z_iadd (pc := 849) gX dL_law_849 ?_
  refine z_top (nI (i + 5)) (nI_add i 5) ?_
  refine z_sld (pc := 850) gX (j := (i + 5)) hX hbl hbA (by omega) hL dL_law_850 ?_
  refine z_cMV (pc := 851) gX hAX [.int (xs (i + 1)), .int (xs (i + 2)), .int (xs (i + 3)), .int (xs (i + 4)), .int (xs (i + 5))] [.int r__822] [2, 3, 4, 5, 6, 7] [0, 1, 8, 9, 10, 11, 12] (fun A1 => met_X4_fits l D B0 A1 om am xm sz it c th wm n k (xs (i + 1)) (xs (i + 2)) (xs (i + 3)) (xs (i + 4)) (xs (i + 5)) (by first | assumption | omega) (by first | assumption | omega) (by first | assumption | omega) (by first | assumption | omega) (by first | assumption | omega) (by first | assumption | omega)) q1632 q1633 q1634 q54 q1635 (zm 2 rfl) (ci := 4) rfl rfl hd_X4_fits ⟨rfl, rfl⟩ ⟨(Nat.le_of_ble_eq_true rfl), (Nat.le_of_ble_eq_true rfl)⟩ rfl rfl (zpl 13 rfl (by decide +kernel)) rfl rfl (Nat.le_of_ble_eq_true rfl) ⟨by show _ ≤ (603072 : Nat); omega, by show _ ≤ (7262314 : Nat); omega⟩ dL_law_851 ?_
  intro u851 hu851
  obtain ⟨r__851, x1_851, th1_851, wn1_851⟩ := u851
  have hu851 : (r__851, x1_851) = mFits n k xm sz it c (xs (i + 1)) (xs (i + 2)) (xs (i + 3)) (xs (i + 4)) (xs (i + 5)) := hu851
  refine z_re [6, 7, 0, 1, 2, 3, 4, 5, 8, 9, 10, 11, 12] [cOb o ad (sa 0) (sb 0) tr (upd x 3 (xm1_822 0)), [(ad 0, .inl (D.1 105, 8, .inr (.inr (.inr (.inr (rF sh 8))))))], mOb om am x1_851, [(am 0, .inl (D.1 100, 8, .inl sz))], [(am 2, .inl (D.1 100, 320, .inl it))], [(am 5, .inl (D.1 100, 25, .inl c))], [(am 10, .inl (D.1 100, 25, .inl th1_851))], [(am 11, .inl (D.1 100, 25, .inl wn1_851))], thP D sa ((da, n, ra), (md, wn, od), c), thP D sb ht1_822, slP D sh rw 8, T1_822, Fr] rfl (zpl 13 rfl (by decide +kernel)) ?_
  refine z_eq (lv₂ := [(0, .ref b), (1, .ref o), (2, .ref om), (3, .int (nI i))]) (st₂ := [.int r__851, .int r__822]) ?_ rfl rfl
  have he := (hu822.1).trans (hu851).symm
  simp only [Prod.mk.injEq] at he
  obtain ⟨rfl, rfl⟩ := he
  refine z_icmp_eq (pc := 854) gX 1149 dL_law_854 (by decide) (fun c854 => ?_) (fun c854 => ?_)
  · skip
    exact kk r__822 xm1_822 ht1_822 T1_822 th1_851 wn1_851 hu822
  · skip
    exact absurd rfl c854
set_option maxHeartbeats 4000000 in
theorem law_absent {pX : Program} {l : Launch} {eX : Env} {sX : State} {mX : MethodId} {argsX : Array Value} {blX : List Frame} {mtX : Method} {cX : Code} {QX : State → Prop} {D : va_G} {A : Nat → Prop} {B0 cells slots b L i : Nat} {xs : Nat → Int32} {Fr : va_W} (gX : zG pX sX mX argsX mtX cX cL_law 4 "StepRidersLaw" (some .boolean) D B0) (hAX : zA sX A B0) (hX : va_X b L xs sX sX.heap) (hbl : b < sX.heap.size) (hbA : ¬ A b) (hL : L ≤ 384) (hi6 : i + 6 ≤ L) (hl : l.stackTraces = false) (hNP : NatNpe) (hce : cells + 1000 ≤ 603072) (hsl : slots + 9000 ≤ 7262314) (o : Nat) (ad : Nat → Nat) (sa : Nat → Nat) (sb : Nat → Nat) (om : Nat) (am : Nat → Nat) (tr : Nat) (x : Nat → Int32) (xm : Nat → Int32) (th : Nat → Int32) (wm : Nat → Int32) (da : Option Nat) (n : Nat) (ra : Nat → Nat) (md : Int32) (wn : Int32) (od : Nat → Int32) (c : Nat → Int32) (ht : sT) (T : va_W) (k : Nat) (hS : sOK T da n k ra c) (ht0 : tOK ht) (hnm : c 17 = nI n) (hn7m : n ≤ 7) (hkm : c 16 = nI k) (hk12m : k ≤ 12)
    (kk : ∀ (ht1_880 : sT) (th1_904 : Nat → Int32) (wn1_904 : Nat → Int32), (tOK ht1_880) → zJ pX l eX room_1 sX mX argsX blX mtX cX QX 4 (zI D A sX [cOb o ad (sa 0) (sb 0) tr x, mOb om am xm, [(am 5, .inl (D.1 100, 25, .inl c))], [(am 10, .inl (D.1 100, 25, .inl th1_904))], [(am 11, .inl (D.1 100, 25, .inl wn1_904))], thP D sa ((da, n, ra), (md, wn, od), c), thP D sb ht1_880, T, Fr]) (cells + 129) (slots + 1290) 1149 [(0, .ref b), (1, .ref o), (2, .ref om), (3, .int (nI i))] []) :
    zJ pX l eX room_1 sX mX argsX blX mtX cX QX 4 (zI D A sX [cOb o ad (sa 0) (sb 0) tr x, mOb om am xm, [(am 5, .inl (D.1 100, 25, .inl c))], [(am 10, .inl (D.1 100, 25, .inl th))], [(am 11, .inl (D.1 100, 25, .inl wm))], thP D sa ((da, n, ra), (md, wn, od), c), thP D sb ht, T, Fr]) cells slots 859 [(0, .ref b), (1, .ref o), (2, .ref om), (3, .int (nI i))] [] := by
  refine z_aload_n (pc := 859) gX 1 dL_law_859 rfl rfl ?_
  refine z_aload_n (pc := 860) gX 0 dL_law_860 rfl rfl ?_
  refine z_iload_n (pc := 861) gX 3 dL_law_861 rfl rfl ?_
  refine z_iconst (pc := 862) gX 1 dL_law_862 (by decide) ?_
  refine z_iadd (pc := 863) gX dL_law_863 ?_
  refine z_top (nI (i + 1)) (nI_add i 1) ?_
  refine z_sld (pc := 864) gX (j := (i + 1)) hX hbl hbA (by omega) hL dL_law_864 ?_
  refine z_aload_n (pc := 865) gX 0 dL_law_865 rfl rfl ?_
  refine z_iload_n (pc := 866) gX 3 dL_law_866 rfl rfl ?_
  refine z_iconst (pc := 867) gX 2 dL_law_867 (by decide) ?_
  refine z_iadd (pc := 868) gX dL_law_868 ?_
  refine z_top (nI (i + 2)) (nI_add i 2) ?_
  refine z_sld (pc := 869) gX (j := (i + 2)) hX hbl hbA (by omega) hL dL_law_869 ?_
  refine z_aload_n (pc := 870) gX 0 dL_law_870 rfl rfl ?_
  refine z_iload_n (pc := 871) gX 3 dL_law_871 rfl rfl ?_
  refine z_iconst (pc := 872) gX 3 dL_law_872 (by decide) ?_
  refine z_iadd (pc := 873) gX dL_law_873 ?_
  refine z_top (nI (i + 3)) (nI_add i 3) ?_
  refine z_sld (pc := 874) gX (j := (i + 3)) hX hbl hbA (by omega) hL dL_law_874 ?_
  refine z_aload_n (pc := 875) gX 0 dL_law_875 rfl rfl ?_
  refine z_iload_n (pc := 876) gX 3 dL_law_876 rfl rfl ?_
  refine z_iconst (pc := 877) gX 4 dL_law_877 (by decide) ?_
  refine z_iadd (pc := 878) gX dL_law_878 ?_
  refine z_top (nI (i + 4)) (nI_add i 4) ?_
  refine z_sld (pc := 879) gX (j := (i + 4)) hX hbl hbA (by omega) hL dL_law_879 ?_
  refine z_cMV (pc := 880) gX hAX [.int (xs (i + 1)), .int (xs (i + 2)), .int (xs (i + 3)), .int (xs (i + 4))] [] [0, 5, 6, 7] [1, 2, 3, 4, 8] (fun A1 => met_X0_absent l D B0 A1 o ad sa sb tr x da n ra md wn od c T k ht (xs (i + 1)) (xs (i + 2)) (xs (i + 3)) (xs (i + 4)) (by first | assumption | omega) (by first | assumption | omega)) q1184 q1185 q1186 q47 q1187 (zm 0 rfl) (ci := 0) rfl rfl hd_X0_absent ⟨rfl, rfl⟩ ⟨(Nat.le_of_ble_eq_true rfl), (Nat.le_of_ble_eq_true rfl)⟩ rfl rfl (zpl 9 rfl (by decide +kernel)) rfl rfl (Nat.le_of_ble_eq_true rfl) ⟨by show _ ≤ (603072 : Nat); omega, by show _ ≤ (7262314 : Nat); omega⟩ dL_law_880 ?_
  intro u880 hu880
  obtain ⟨ht1_880, rfl⟩ : ∃ z, z = u880 := ⟨_, rfl⟩
  have hu880 : tOK ht1_880 := hu880
  refine z_re [0, 4, 5, 6, 7, 1, 2, 3, 8] [cOb o ad (sa 0) (sb 0) tr x, mOb om am xm, [(am 5, .inl (D.1 100, 25, .inl c))], [(am 10, .inl (D.1 100, 25, .inl th))], [(am 11, .inl (D.1 100, 25, .inl wm))], thP D sa ((da, n, ra), (md, wn, od), c), thP D sb ht1_880, T, Fr] rfl (zpl 9 rfl (by decide +kernel)) ?_
  refine z_norm [cOb o ad (sa 0) (sb 0) tr x, mOb om am xm, [(am 5, .inl (D.1 100, 25, .inl c))], [(am 10, .inl (D.1 100, 25, .inl th))], [(am 11, .inl (D.1 100, 25, .inl wm))], thP D sa ((da, n, ra), (md, wn, od), c), thP D sb ht1_880, T, Fr] (cells + 129) (slots + 1290) ?_ rfl rfl rfl
  refine z_eq (lv₂ := [(0, .ref b), (1, .ref o), (2, .ref om), (3, .int (nI i))]) (st₂ := [.int (mAbsent n k c (xs (i + 1)) (xs (i + 2)) (xs (i + 3)) (xs (i + 4)))]) ?_ rfl rfl
  refine z_aload_n (pc := 883) gX 2 dL_law_883 rfl rfl ?_
  refine z_aload_n (pc := 884) gX 0 dL_law_884 rfl rfl ?_
  refine z_iload_n (pc := 885) gX 3 dL_law_885 rfl rfl ?_
  refine z_iconst (pc := 886) gX 1 dL_law_886 (by decide) ?_
  refine z_iadd (pc := 887) gX dL_law_887 ?_
  refine z_top (nI (i + 1)) (nI_add i 1) ?_
  refine z_sld (pc := 888) gX (j := (i + 1)) hX hbl hbA (by omega) hL dL_law_888 ?_
  refine z_aload_n (pc := 889) gX 0 dL_law_889 rfl rfl ?_
  refine z_iload_n (pc := 890) gX 3 dL_law_890 rfl rfl ?_
  refine z_iconst (pc := 891) gX 2 dL_law_891 (by decide) ?_
  refine z_iadd (pc := 892) gX dL_law_892 ?_
  refine z_top (nI (i + 2)) (nI_add i 2) ?_
  refine z_sld (pc := 893) gX (j := (i + 2)) hX hbl hbA (by omega) hL dL_law_893 ?_
  refine z_aload_n (pc := 894) gX 0 dL_law_894 rfl rfl ?_
  refine z_iload_n (pc := 895) gX 3 dL_law_895 rfl rfl ?_
  refine z_iconst (pc := 896) gX 3 dL_law_896 (by decide) ?_
  refine z_iadd (pc := 897) gX dL_law_897 ?_
  refine z_top (nI (i + 3)) (nI_add i 3) ?_
  refine z_sld (pc := 898) gX (j := (i + 3)) hX hbl hbA (by omega) hL dL_law_898 ?_
  refine z_aload_n (pc := 899) gX 0 dL_law_899 rfl rfl ?_
  refine z_iload_n (pc := 900) gX 3 dL_law_900 rfl rfl ?_
  refine z_iconst (pc := 901) gX 4 dL_law_901 (by decide) ?_
  refine z_iadd (pc := 902) gX dL_law_902 ?_
  refine z_top (nI (i + 4)) (nI_add i 4) ?_
  refine z_sld (pc := 903) gX (j := (i + 4)) hX hbl hbA (by omega) hL dL_law_903 ?_
  refine z_cMV (pc := 904) gX hAX [.int (xs (i + 1)), .int (xs (i + 2)), .int (xs (i + 3)), .int (xs (i + 4))] [.int (mAbsent n k c (xs (i + 1)) (xs (i + 2)) (xs (i + 3)) (xs (i + 4)))] [1, 2, 3, 4] [0, 5, 6, 7, 8] (fun A1 => met_X4_absent l D B0 A1 om am xm c th wm n k (xs (i + 1)) (xs (i + 2)) (xs (i + 3)) (xs (i + 4)) (by first | assumption | omega) (by first | assumption | omega) (by first | assumption | omega) (by first | assumption | omega)) q1640 q1641 q1642 q54 q1643 (zm 1 rfl) (ci := 4) rfl rfl hd_X4_absent ⟨rfl, rfl⟩ ⟨(Nat.le_of_ble_eq_true rfl), (Nat.le_of_ble_eq_true rfl)⟩ rfl rfl (zpl 9 rfl (by decide +kernel)) rfl rfl (Nat.le_of_ble_eq_true rfl) ⟨by show _ ≤ (603072 : Nat); omega, by show _ ≤ (7262314 : Nat); omega⟩ dL_law_904 ?_
  intro u904 hu904
  obtain ⟨th1_904, wn1_904⟩ := u904
  refine z_re [4, 0, 1, 2, 3, 5, 6, 7, 8] [cOb o ad (sa 0) (sb 0) tr x, mOb om am xm, [(am 5, .inl (D.1 100, 25, .inl c))], [(am 10, .inl (D.1 100, 25, .inl th1_904))], [(am 11, .inl (D.1 100, 25, .inl wn1_904))], thP D sa ((da, n, ra), (md, wn, od), c), thP D sb ht1_880, T, Fr] rfl (zpl 9 rfl (by decide +kernel)) ?_
  refine z_eq (lv₂ := [(0, .ref b), (1, .ref o), (2, .ref om), (3, .int (nI i))]) (st₂ := [.int (mAbsent n k c (xs (i + 1)) (xs (i + 2)) (xs (i + 3)) (xs (i + 4))), .int (mAbsent n k c (xs (i + 1)) (xs (i + 2)) (xs (i + 3)) (xs (i + 4)))]) ?_ rfl rfl
  refine z_icmp_eq (pc := 907) gX 1149 dL_law_907 (by decide) (fun c907 => ?_) (fun c907 => ?_)
  · skip
    exact kk ht1_880 th1_904 wn1_904 hu880
  · skip
    exact absurd rfl c907
set_option maxHeartbeats 4000000 in
theorem law_drawn {pX : Program} {l : Launch} {eX : Env} {sX : State} {mX : MethodId} {argsX : Array Value} {blX : List Frame} {mtX : Method} {cX : Code} {QX : State → Prop} {D : va_G} {A : Nat → Prop} {B0 cells slots b L i : Nat} {xs : Nat → Int32} {Fr : va_W} (gX : zG pX sX mX argsX mtX cX cL_law 4 "StepRidersLaw" (some .boolean) D B0) (hAX : zA sX A B0) (hX : va_X b L xs sX sX.heap) (hbl : b < sX.heap.size) (hbA : ¬ A b) (hL : L ≤ 384) (hi6 : i + 6 ≤ L) (hl : l.stackTraces = false) (hNP : NatNpe) (hce : cells + 1000 ≤ 603072) (hsl : slots + 9000 ≤ 7262314) (o : Nat) (ad : Nat → Nat) (sa : Nat → Nat) (sb : Nat → Nat) (om : Nat) (am : Nat → Nat) (tr : Nat) (x : Nat → Int32) (xm : Nat → Int32) (th : Nat → Int32) (wm : Nat → Int32) (da : Option Nat) (n : Nat) (ra : Nat → Nat) (md : Int32) (wn : Int32) (od : Nat → Int32) (c : Nat → Int32) (ht : sT) (T : va_W) (k : Nat) (hS : sOK T da n k ra c) (ht0 : tOK ht) (hnm : c 17 = nI n) (hn7m : n ≤ 7) (hkm : c 16 = nI k) (hk12m : k ≤ 12)
    (kk : ∀ (ht1_928 : sT) (th1_947 : Nat → Int32) (wn1_947 : Nat → Int32), (tOK ht1_928) → zJ pX l eX room_1 sX mX argsX blX mtX cX QX 4 (zI D A sX [cOb o ad (sa 0) (sb 0) tr x, mOb om am xm, [(am 5, .inl (D.1 100, 25, .inl c))], [(am 10, .inl (D.1 100, 25, .inl th1_947))], [(am 11, .inl (D.1 100, 25, .inl wn1_947))], thP D sa ((da, n, ra), (md, wn, od), c), thP D sb ht1_928, T, Fr]) (cells + 1) (slots + 10) 1149 [(0, .ref b), (1, .ref o), (2, .ref om), (3, .int (nI i))] []) :
    zJ pX l eX room_1 sX mX argsX blX mtX cX QX 4 (zI D A sX [cOb o ad (sa 0) (sb 0) tr x, mOb om am xm, [(am 5, .inl (D.1 100, 25, .inl c))], [(am 10, .inl (D.1 100, 25, .inl th))], [(am 11, .inl (D.1 100, 25, .inl wm))], thP D sa ((da, n, ra), (md, wn, od), c), thP D sb ht, T, Fr]) cells slots 912 [(0, .ref b), (1, .ref o), (2, .ref om), (3, .int (nI i))] [] := by
  refine z_aload_n (pc := 912) gX 1 dL_law_912 rfl rfl ?_
  refine z_aload_n (pc := 913) gX 0 dL_law_913 rfl rfl ?_
  refine z_iload_n (pc := 914) gX 3 dL_law_914 rfl rfl ?_
  refine z_iconst (pc := 915) gX 1 dL_law_915 (by decide) ?_
  refine z_iadd (pc := 916) gX dL_law_916 ?_
  refine z_top (nI (i + 1)) (nI_add i 1) ?_
  refine z_sld (pc := 917) gX (j := (i + 1)) hX hbl hbA (by omega) hL dL_law_917 ?_
  refine z_aload_n (pc := 918) gX 0 dL_law_918 rfl rfl ?_
  refine z_iload_n (pc := 919) gX 3 dL_law_919 rfl rfl ?_
  refine z_iconst (pc := 920) gX 2 dL_law_920 (by decide) ?_
  refine z_iadd (pc := 921) gX dL_law_921 ?_
  refine z_top (nI (i + 2)) (nI_add i 2) ?_
  refine z_sld (pc := 922) gX (j := (i + 2)) hX hbl hbA (by omega) hL dL_law_922 ?_
  refine z_aload_n (pc := 923) gX 0 dL_law_923 rfl rfl ?_
  refine z_iload_n (pc := 924) gX 3 dL_law_924 rfl rfl ?_
  refine z_iconst (pc := 925) gX 3 dL_law_925 (by decide) ?_
  refine z_iadd (pc := 926) gX dL_law_926 ?_
  refine z_top (nI (i + 3)) (nI_add i 3) ?_
  refine z_sld (pc := 927) gX (j := (i + 3)) hX hbl hbA (by omega) hL dL_law_927 ?_
  refine z_cMV (pc := 928) gX hAX [.int (xs (i + 1)), .int (xs (i + 2)), .int (xs (i + 3))] [] [0, 5, 6, 7] [1, 2, 3, 4, 8] (fun A1 => met_X0_drawn l D B0 A1 o ad sa sb tr x da n ra md wn od c T k ht (xs (i + 1)) (xs (i + 2)) (xs (i + 3)) (by first | assumption | omega) (by first | assumption | omega)) q1192 q1193 q1194 q47 q1195 (zm 0 rfl) (ci := 0) rfl rfl hd_X0_drawn ⟨rfl, rfl⟩ ⟨(Nat.le_of_ble_eq_true rfl), (Nat.le_of_ble_eq_true rfl)⟩ rfl rfl (zpl 9 rfl (by decide +kernel)) rfl rfl (Nat.le_of_ble_eq_true rfl) ⟨by show _ ≤ (603072 : Nat); omega, by show _ ≤ (7262314 : Nat); omega⟩ dL_law_928 ?_
  intro u928 hu928
  obtain ⟨ht1_928, rfl⟩ : ∃ z, z = u928 := ⟨_, rfl⟩
  have hu928 : tOK ht1_928 := hu928
  refine z_re [0, 4, 5, 6, 7, 1, 2, 3, 8] [cOb o ad (sa 0) (sb 0) tr x, mOb om am xm, [(am 5, .inl (D.1 100, 25, .inl c))], [(am 10, .inl (D.1 100, 25, .inl th))], [(am 11, .inl (D.1 100, 25, .inl wm))], thP D sa ((da, n, ra), (md, wn, od), c), thP D sb ht1_928, T, Fr] rfl (zpl 9 rfl (by decide +kernel)) ?_
  refine z_norm [cOb o ad (sa 0) (sb 0) tr x, mOb om am xm, [(am 5, .inl (D.1 100, 25, .inl c))], [(am 10, .inl (D.1 100, 25, .inl th))], [(am 11, .inl (D.1 100, 25, .inl wm))], thP D sa ((da, n, ra), (md, wn, od), c), thP D sb ht1_928, T, Fr] (cells + 1) (slots + 10) ?_ rfl rfl rfl
  refine z_eq (lv₂ := [(0, .ref b), (1, .ref o), (2, .ref om), (3, .int (nI i))]) (st₂ := [.int (mDrawn n k c (xs (i + 1)) (xs (i + 2)) (xs (i + 3)))]) ?_ rfl rfl
  refine z_aload_n (pc := 931) gX 2 dL_law_931 rfl rfl ?_
  refine z_aload_n (pc := 932) gX 0 dL_law_932 rfl rfl ?_
  refine z_iload_n (pc := 933) gX 3 dL_law_933 rfl rfl ?_
  refine z_iconst (pc := 934) gX 1 dL_law_934 (by decide) ?_
  refine z_iadd (pc := 935) gX dL_law_935 ?_
  refine z_top (nI (i + 1)) (nI_add i 1) ?_
  refine z_sld (pc := 936) gX (j := (i + 1)) hX hbl hbA (by omega) hL dL_law_936 ?_
  refine z_aload_n (pc := 937) gX 0 dL_law_937 rfl rfl ?_
  refine z_iload_n (pc := 938) gX 3 dL_law_938 rfl rfl ?_
  refine z_iconst (pc := 939) gX 2 dL_law_939 (by decide) ?_
  refine z_iadd (pc := 940) gX dL_law_940 ?_
  refine z_top (nI (i + 2)) (nI_add i 2) ?_
  refine z_sld (pc := 941) gX (j := (i + 2)) hX hbl hbA (by omega) hL dL_law_941 ?_
  refine z_aload_n (pc := 942) gX 0 dL_law_942 rfl rfl ?_
  refine z_iload_n (pc := 943) gX 3 dL_law_943 rfl rfl ?_
  refine z_iconst (pc := 944) gX 3 dL_law_944 (by decide) ?_
  refine z_iadd (pc := 945) gX dL_law_945 ?_
  refine z_top (nI (i + 3)) (nI_add i 3) ?_
  refine z_sld (pc := 946) gX (j := (i + 3)) hX hbl hbA (by omega) hL dL_law_946 ?_
  refine z_cMV (pc := 947) gX hAX [.int (xs (i + 1)), .int (xs (i + 2)), .int (xs (i + 3))] [.int (mDrawn n k c (xs (i + 1)) (xs (i + 2)) (xs (i + 3)))] [1, 2, 3, 4] [0, 5, 6, 7, 8] (fun A1 => met_X4_drawn l D B0 A1 om am xm c th wm n k (xs (i + 1)) (xs (i + 2)) (xs (i + 3)) (by first | assumption | omega) (by first | assumption | omega) (by first | assumption | omega) (by first | assumption | omega)) q1644 q1645 q1646 q54 q1647 (zm 1 rfl) (ci := 4) rfl rfl hd_X4_drawn ⟨rfl, rfl⟩ ⟨(Nat.le_of_ble_eq_true rfl), (Nat.le_of_ble_eq_true rfl)⟩ rfl rfl (zpl 9 rfl (by decide +kernel)) rfl rfl (Nat.le_of_ble_eq_true rfl) ⟨by show _ ≤ (603072 : Nat); omega, by show _ ≤ (7262314 : Nat); omega⟩ dL_law_947 ?_
  intro u947 hu947
  obtain ⟨th1_947, wn1_947⟩ := u947
  refine z_re [4, 0, 1, 2, 3, 5, 6, 7, 8] [cOb o ad (sa 0) (sb 0) tr x, mOb om am xm, [(am 5, .inl (D.1 100, 25, .inl c))], [(am 10, .inl (D.1 100, 25, .inl th1_947))], [(am 11, .inl (D.1 100, 25, .inl wn1_947))], thP D sa ((da, n, ra), (md, wn, od), c), thP D sb ht1_928, T, Fr] rfl (zpl 9 rfl (by decide +kernel)) ?_
  refine z_eq (lv₂ := [(0, .ref b), (1, .ref o), (2, .ref om), (3, .int (nI i))]) (st₂ := [.int (mDrawn n k c (xs (i + 1)) (xs (i + 2)) (xs (i + 3))), .int (mDrawn n k c (xs (i + 1)) (xs (i + 2)) (xs (i + 3)))]) ?_ rfl rfl
  refine z_icmp_eq (pc := 950) gX 1149 dL_law_950 (by decide) (fun c950 => ?_) (fun c950 => ?_)
  · skip
    exact kk ht1_928 th1_947 wn1_947 hu928
  · skip
    exact absurd rfl c950
set_option maxHeartbeats 4000000 in
theorem law_image {pX : Program} {l : Launch} {eX : Env} {sX : State} {mX : MethodId} {argsX : Array Value} {blX : List Frame} {mtX : Method} {cX : Code} {QX : State → Prop} {D : va_G} {A : Nat → Prop} {B0 cells slots b L i : Nat} {xs : Nat → Int32} {Fr : va_W} (gX : zG pX sX mX argsX mtX cX cL_law 4 "StepRidersLaw" (some .boolean) D B0) (hAX : zA sX A B0) (hX : va_X b L xs sX sX.heap) (hbl : b < sX.heap.size) (hbA : ¬ A b) (hL : L ≤ 384) (hi6 : i + 6 ≤ L) (hl : l.stackTraces = false) (hNP : NatNpe) (hce : cells + 1000 ≤ 603072) (hsl : slots + 9000 ≤ 7262314) (o : Nat) (ad : Nat → Nat) (sa : Nat → Nat) (sb : Nat → Nat) (om : Nat) (am : Nat → Nat) (tr : Nat) (x : Nat → Int32) (jf : pF) (xm : Nat → Int32) (im : Nat → Int32) (kp : Nat → Int32) (da : Option Nat) (n : Nat) (ra : Nat → Nat) (md : Int32) (wn : Int32) (od : Nat → Int32) (c : Nat → Int32) (T : va_W) (k : Nat) (hS : sOK T da n k ra c) (hnC : 0 < n → nW n c) (hI : imR T jf im kp)
    (kk : ∀ (r__961 : Int32) (im1_961 : Nat → Int32) (kp1_961 : Nat → Int32) (jf1_961 : pF), ((r__961, im1_961, kp1_961) = mImage c im kp (xs (i + 1)) ∧ imR T jf1_961 im1_961 kp1_961) → zJ pX l eX room_1 sX mX argsX blX mtX cX QX 4 (zI D A sX [cOb o ad (sa 0) (sb 0) tr x, [(ad 3, .inl (D.1 106, 2, .inr (.inr (.inr (.inr (pRef jf1_961))))))], mOb om am xm, [(am 5, .inl (D.1 100, 25, .inl c))], [(am 7, .inl (D.1 100, 50, .inl im1_961))], [(am 8, .inl (D.1 103, 2, .inl kp1_961))], thP D sa ((da, n, ra), (md, wn, od), c), pstP D jf1_961 2, T, Fr]) (cells + 6) (slots + 42) 1149 [(0, .ref b), (1, .ref o), (2, .ref om), (3, .int (nI i))] []) :
    zJ pX l eX room_1 sX mX argsX blX mtX cX QX 4 (zI D A sX [cOb o ad (sa 0) (sb 0) tr x, [(ad 3, .inl (D.1 106, 2, .inr (.inr (.inr (.inr (pRef jf))))))], mOb om am xm, [(am 5, .inl (D.1 100, 25, .inl c))], [(am 7, .inl (D.1 100, 50, .inl im))], [(am 8, .inl (D.1 103, 2, .inl kp))], thP D sa ((da, n, ra), (md, wn, od), c), pstP D jf 2, T, Fr]) cells slots 955 [(0, .ref b), (1, .ref o), (2, .ref om), (3, .int (nI i))] [] := by
  refine z_aload_n (pc := 955) gX 1 dL_law_955 rfl rfl ?_
  refine z_aload_n (pc := 956) gX 0 dL_law_956 rfl rfl ?_
  refine z_iload_n (pc := 957) gX 3 dL_law_957 rfl rfl ?_
  refine z_iconst (pc := 958) gX 1 dL_law_958 (by decide) ?_
  refine z_iadd (pc := 959) gX dL_law_959 ?_
  refine z_top (nI (i + 1)) (nI_add i 1) ?_
  refine z_sld (pc := 960) gX (j := (i + 1)) hX hbl hbA (by omega) hL dL_law_960 ?_
  refine z_cMV (pc := 961) gX hAX [.int (xs (i + 1))] [] [0, 1, 6, 7, 8] [2, 3, 4, 5, 9] (fun A1 => met_X0_image l D B0 A1 o ad sa sb tr x da n ra md wn od c T k im kp jf (xs (i + 1)) (by first | assumption | omega) (by first | assumption | omega) (by first | assumption | omega)) q1200 q1201 q1202 q47 q1203 (zm 0 rfl) (ci := 0) rfl rfl hd_X0_image ⟨rfl, rfl⟩ ⟨(Nat.le_of_ble_eq_true rfl), (Nat.le_of_ble_eq_true rfl)⟩ rfl rfl (zpl 10 rfl (by decide +kernel)) rfl rfl (Nat.le_of_ble_eq_true rfl) ⟨by show _ ≤ (603072 : Nat); omega, by show _ ≤ (7262314 : Nat); omega⟩ dL_law_961 ?_
  intro u961 hu961
  obtain ⟨r__961, im1_961, kp1_961, jf1_961⟩ := u961
  have hu961 : (r__961, im1_961, kp1_961) = mImage c im kp (xs (i + 1)) ∧ imR T jf1_961 im1_961 kp1_961 := hu961
  refine z_re [0, 1, 5, 6, 7, 8, 2, 3, 4, 9] [cOb o ad (sa 0) (sb 0) tr x, [(ad 3, .inl (D.1 106, 2, .inr (.inr (.inr (.inr (pRef jf1_961))))))], mOb om am xm, [(am 5, .inl (D.1 100, 25, .inl c))], [(am 7, .inl (D.1 100, 50, .inl im))], [(am 8, .inl (D.1 103, 2, .inl kp))], thP D sa ((da, n, ra), (md, wn, od), c), pstP D jf1_961 2, T, Fr] rfl (zpl 10 rfl (by decide +kernel)) ?_
  refine z_norm [cOb o ad (sa 0) (sb 0) tr x, [(ad 3, .inl (D.1 106, 2, .inr (.inr (.inr (.inr (pRef jf1_961))))))], mOb om am xm, [(am 5, .inl (D.1 100, 25, .inl c))], [(am 7, .inl (D.1 100, 50, .inl im))], [(am 8, .inl (D.1 103, 2, .inl kp))], thP D sa ((da, n, ra), (md, wn, od), c), pstP D jf1_961 2, T, Fr] (cells + 6) (slots + 42) ?_ rfl rfl rfl
  refine z_eq (lv₂ := [(0, .ref b), (1, .ref o), (2, .ref om), (3, .int (nI i))]) (st₂ := [.int r__961]) ?_ rfl rfl
  refine z_aload_n (pc := 964) gX 2 dL_law_964 rfl rfl ?_
  refine z_aload_n (pc := 965) gX 0 dL_law_965 rfl rfl ?_
  refine z_iload_n (pc := 966) gX 3 dL_law_966 rfl rfl ?_
  refine z_iconst (pc := 967) gX 1 dL_law_967 (by decide) ?_
  refine z_iadd (pc := 968) gX dL_law_968 ?_
  refine z_top (nI (i + 1)) (nI_add i 1) ?_
  refine z_sld (pc := 969) gX (j := (i + 1)) hX hbl hbA (by omega) hL dL_law_969 ?_
  refine z_cMV (pc := 970) gX hAX [.int (xs (i + 1))] [.int r__961] [2, 3, 4, 5] [0, 1, 6, 7, 8, 9] (fun A1 => met_X4_image l D B0 A1 om am xm c im kp (xs (i + 1)) ) q1654 q1655 q1656 q54 q1657 (zm 2 rfl) (ci := 4) rfl rfl hd_X4_image ⟨rfl, rfl⟩ ⟨(Nat.le_of_ble_eq_true rfl), (Nat.le_of_ble_eq_true rfl)⟩ rfl rfl (zpl 10 rfl (by decide +kernel)) rfl rfl (Nat.le_of_ble_eq_true rfl) ⟨by show _ ≤ (603072 : Nat); omega, by show _ ≤ (7262314 : Nat); omega⟩ dL_law_970 ?_
  intro u970 hu970
  obtain ⟨r__970, im1_970, kp1_970⟩ := u970
  have hu970 : (r__970, im1_970, kp1_970) = mImage c im kp (xs (i + 1)) := hu970
  refine z_re [4, 5, 0, 1, 2, 3, 6, 7, 8, 9] [cOb o ad (sa 0) (sb 0) tr x, [(ad 3, .inl (D.1 106, 2, .inr (.inr (.inr (.inr (pRef jf1_961))))))], mOb om am xm, [(am 5, .inl (D.1 100, 25, .inl c))], [(am 7, .inl (D.1 100, 50, .inl im1_970))], [(am 8, .inl (D.1 103, 2, .inl kp1_970))], thP D sa ((da, n, ra), (md, wn, od), c), pstP D jf1_961 2, T, Fr] rfl (zpl 10 rfl (by decide +kernel)) ?_
  refine z_eq (lv₂ := [(0, .ref b), (1, .ref o), (2, .ref om), (3, .int (nI i))]) (st₂ := [.int r__970, .int r__961]) ?_ rfl rfl
  have he := (hu961.1).trans (hu970).symm
  simp only [Prod.mk.injEq] at he
  obtain ⟨rfl, rfl, rfl⟩ := he
  refine z_icmp_eq (pc := 973) gX 1149 dL_law_973 (by decide) (fun c973 => ?_) (fun c973 => ?_)
  · skip
    exact kk r__961 im1_961 kp1_961 jf1_961 hu961
  · skip
    exact absurd rfl c973
set_option maxHeartbeats 4000000 in
theorem law_restore {pX : Program} {l : Launch} {eX : Env} {sX : State} {mX : MethodId} {argsX : Array Value} {blX : List Frame} {mtX : Method} {cX : Code} {QX : State → Prop} {D : va_G} {A : Nat → Prop} {B0 cells slots b L i : Nat} {xs : Nat → Int32} {Fr : va_W} (gX : zG pX sX mX argsX mtX cX cL_law 4 "StepRidersLaw" (some .boolean) D B0) (hAX : zA sX A B0) (hX : va_X b L xs sX sX.heap) (hbl : b < sX.heap.size) (hbA : ¬ A b) (hL : L ≤ 384) (hi6 : i + 6 ≤ L) (hl : l.stackTraces = false) (hNP : NatNpe) (hce : cells + 1000 ≤ 603072) (hsl : slots + 9000 ≤ 7262314) (o : Nat) (ad : Nat → Nat) (sa : Nat → Nat) (sb : Nat → Nat) (om : Nat) (am : Nat → Nat) (tr : Nat) (x : Nat → Int32) (pf : pF) (jf : pF) (xm : Nat → Int32) (im : Nat → Int32) (kp : Nat → Int32) (pa : Nat → Int32) (da : Option Nat) (n : Nat) (ra : Nat → Nat) (md : Int32) (wn : Int32) (od : Nat → Int32) (c : Nat → Int32) (T : va_W) (k : Nat) (kn : Nat) (hS : sOK T da n k ra c) (hx : x 2 = nI kn) (hA : aOK n k ra c xm kn pf pa) (hI : imR T jf im kp)
    (kk : ∀ (r__984 : Int32) (xm1_984 : Nat → Int32) (kn1_984 : Nat) (k1_984 : Nat) (da1_984 : Option Nat) (n1_984 : Nat) (ra1_984 : Nat → Nat) (md1_984 : Int32) (wn1_984 : Int32) (c1_984 : Nat → Int32) (c1_993 : Nat → Int32), ((r__984, xm1_984) = ((mRestore xm c im kp (xs (i + 1))).1, (mRestore xm c im kp (xs (i + 1))).2.1) ∧ (∀ j, j < 25 → c1_984 j = (mRestore xm c im kp (xs (i + 1))).2.2 j) ∧ sOK T da1_984 n1_984 k1_984 ra1_984 c1_984 ∧ aOK n1_984 k1_984 ra1_984 c1_984 xm1_984 kn1_984 pf pa) → zJ pX l eX room_1 sX mX argsX blX mtX cX QX 4 (zI D A sX [cOb o ad (sa 0) (sb 0) tr (upd x 2 (nI kn1_984)), [(ad 3, .inl (D.1 106, 2, .inr (.inr (.inr (.inr (pRef jf))))))], mOb om am xm1_984, [(am 5, .inl (D.1 100, 25, .inl c1_984))], [(am 7, .inl (D.1 100, 50, .inl im))], [(am 8, .inl (D.1 103, 2, .inl kp))], thP D sa ((da1_984, n1_984, ra1_984), (md1_984, wn1_984, od), c1_984), pstP D jf 2, T, Fr]) (cells + 1) (slots + 10) 1149 [(0, .ref b), (1, .ref o), (2, .ref om), (3, .int (nI i))] []) :
    zJ pX l eX room_1 sX mX argsX blX mtX cX QX 4 (zI D A sX [cOb o ad (sa 0) (sb 0) tr x, [(ad 3, .inl (D.1 106, 2, .inr (.inr (.inr (.inr (pRef jf))))))], mOb om am xm, [(am 5, .inl (D.1 100, 25, .inl c))], [(am 7, .inl (D.1 100, 50, .inl im))], [(am 8, .inl (D.1 103, 2, .inl kp))], thP D sa ((da, n, ra), (md, wn, od), c), pstP D jf 2, T, Fr]) cells slots 978 [(0, .ref b), (1, .ref o), (2, .ref om), (3, .int (nI i))] [] := by
  refine z_aload_n (pc := 978) gX 1 dL_law_978 rfl rfl ?_
  refine z_aload_n (pc := 979) gX 0 dL_law_979 rfl rfl ?_
  refine z_iload_n (pc := 980) gX 3 dL_law_980 rfl rfl ?_
  refine z_iconst (pc := 981) gX 1 dL_law_981 (by decide) ?_
  refine z_iadd (pc := 982) gX dL_law_982 ?_
  refine z_top (nI (i + 1)) (nI_add i 1) ?_
  refine z_sld (pc := 983) gX (j := (i + 1)) hX hbl hbA (by omega) hL dL_law_983 ?_
  refine z_cMV (pc := 984) gX hAX [.int (xs (i + 1))] [] [0, 1, 6, 7, 8] [2, 3, 4, 5, 9] (fun A1 => met_X0_restore l D B0 A1 o ad sa sb tr x da n ra md wn od c T k xm pa pf kn im kp jf (xs (i + 1)) (by first | assumption | omega) (by first | assumption | omega) (by first | assumption | omega) (by first | assumption | omega)) q1204 q1205 q1206 q47 q1207 (zm 0 rfl) (ci := 0) rfl rfl hd_X0_restore ⟨rfl, rfl⟩ ⟨(Nat.le_of_ble_eq_true rfl), (Nat.le_of_ble_eq_true rfl)⟩ rfl rfl (zpl 10 rfl (by decide +kernel)) rfl rfl (Nat.le_of_ble_eq_true rfl) ⟨by show _ ≤ (603072 : Nat); omega, by show _ ≤ (7262314 : Nat); omega⟩ dL_law_984 ?_
  intro u984 hu984
  obtain ⟨r__984, xm1_984, kn1_984, k1_984, da1_984, n1_984, ra1_984, md1_984, wn1_984, c1_984⟩ := u984
  have hu984 : (r__984, xm1_984) = ((mRestore xm c im kp (xs (i + 1))).1, (mRestore xm c im kp (xs (i + 1))).2.1) ∧ (∀ j, j < 25 → c1_984 j = (mRestore xm c im kp (xs (i + 1))).2.2 j) ∧ sOK T da1_984 n1_984 k1_984 ra1_984 c1_984 ∧ aOK n1_984 k1_984 ra1_984 c1_984 xm1_984 kn1_984 pf pa := hu984
  refine z_re [0, 1, 5, 6, 7, 8, 2, 3, 4, 9] [cOb o ad (sa 0) (sb 0) tr (upd x 2 (nI kn1_984)), [(ad 3, .inl (D.1 106, 2, .inr (.inr (.inr (.inr (pRef jf))))))], mOb om am xm, [(am 5, .inl (D.1 100, 25, .inl c))], [(am 7, .inl (D.1 100, 50, .inl im))], [(am 8, .inl (D.1 103, 2, .inl kp))], thP D sa ((da1_984, n1_984, ra1_984), (md1_984, wn1_984, od), c1_984), pstP D jf 2, T, Fr] rfl (zpl 10 rfl (by decide +kernel)) ?_
  refine z_norm [cOb o ad (sa 0) (sb 0) tr (upd x 2 (nI kn1_984)), [(ad 3, .inl (D.1 106, 2, .inr (.inr (.inr (.inr (pRef jf))))))], mOb om am xm, [(am 5, .inl (D.1 100, 25, .inl c))], [(am 7, .inl (D.1 100, 50, .inl im))], [(am 8, .inl (D.1 103, 2, .inl kp))], thP D sa ((da1_984, n1_984, ra1_984), (md1_984, wn1_984, od), c1_984), pstP D jf 2, T, Fr] (cells + 1) (slots + 10) ?_ rfl rfl rfl
  refine z_eq (lv₂ := [(0, .ref b), (1, .ref o), (2, .ref om), (3, .int (nI i))]) (st₂ := [.int r__984]) ?_ rfl rfl
  refine z_aload_n (pc := 987) gX 2 dL_law_987 rfl rfl ?_
  refine z_aload_n (pc := 988) gX 0 dL_law_988 rfl rfl ?_
  refine z_iload_n (pc := 989) gX 3 dL_law_989 rfl rfl ?_
  refine z_iconst (pc := 990) gX 1 dL_law_990 (by decide) ?_
  refine z_iadd (pc := 991) gX dL_law_991 ?_
  refine z_top (nI (i + 1)) (nI_add i 1) ?_
  refine z_sld (pc := 992) gX (j := (i + 1)) hX hbl hbA (by omega) hL dL_law_992 ?_
  refine z_cMV (pc := 993) gX hAX [.int (xs (i + 1))] [.int r__984] [2, 3, 4, 5] [0, 1, 6, 7, 8, 9] (fun A1 => met_X4_restore l D B0 A1 om am xm c im kp (xs (i + 1)) ) q1658 q1659 q1660 q54 q1661 (zm 2 rfl) (ci := 4) rfl rfl hd_X4_restore ⟨rfl, rfl⟩ ⟨(Nat.le_of_ble_eq_true rfl), (Nat.le_of_ble_eq_true rfl)⟩ rfl rfl (zpl 10 rfl (by decide +kernel)) rfl rfl (Nat.le_of_ble_eq_true rfl) ⟨by show _ ≤ (603072 : Nat); omega, by show _ ≤ (7262314 : Nat); omega⟩ dL_law_993 ?_
  intro u993 hu993
  obtain ⟨r__993, x1_993, c1_993⟩ := u993
  have hu993 : (r__993, x1_993, c1_993) = mRestore xm c im kp (xs (i + 1)) := hu993
  refine z_re [4, 5, 0, 1, 2, 3, 6, 7, 8, 9] [cOb o ad (sa 0) (sb 0) tr (upd x 2 (nI kn1_984)), [(ad 3, .inl (D.1 106, 2, .inr (.inr (.inr (.inr (pRef jf))))))], mOb om am x1_993, [(am 5, .inl (D.1 100, 25, .inl c1_993))], [(am 7, .inl (D.1 100, 50, .inl im))], [(am 8, .inl (D.1 103, 2, .inl kp))], thP D sa ((da1_984, n1_984, ra1_984), (md1_984, wn1_984, od), c1_984), pstP D jf 2, T, Fr] rfl (zpl 10 rfl (by decide +kernel)) ?_
  refine z_eq (lv₂ := [(0, .ref b), (1, .ref o), (2, .ref om), (3, .int (nI i))]) (st₂ := [.int r__993, .int r__984]) ?_ rfl rfl
  have he := hu984.1.trans (show ((mRestore xm c im kp (xs (i + 1))).1, (mRestore xm c im kp (xs (i + 1))).2.1) = (r__993, x1_993) by rw [← hu993])
  simp only [Prod.mk.injEq] at he
  obtain ⟨rfl, rfl⟩ := he
  refine z_ext 3 c1_984 rfl (fun z hz => by rw [hu984.2.1 z hz, ← hu993]) [cOb o ad (sa 0) (sb 0) tr (upd x 2 (nI kn1_984)), [(ad 3, .inl (D.1 106, 2, .inr (.inr (.inr (.inr (pRef jf))))))], mOb om am xm1_984, [(am 5, .inl (D.1 100, 25, .inl c1_984))], [(am 7, .inl (D.1 100, 50, .inl im))], [(am 8, .inl (D.1 103, 2, .inl kp))], thP D sa ((da1_984, n1_984, ra1_984), (md1_984, wn1_984, od), c1_984), pstP D jf 2, T, Fr] rfl ?_
  refine z_icmp_eq (pc := 996) gX 1149 dL_law_996 (by decide) (fun c996 => ?_) (fun c996 => ?_)
  · skip
    exact kk r__984 xm1_984 kn1_984 k1_984 da1_984 n1_984 ra1_984 md1_984 wn1_984 c1_984 c1_993 hu984
  · skip
    exact absurd rfl c996
set_option maxHeartbeats 4000000 in
theorem law_kind {pX : Program} {l : Launch} {eX : Env} {sX : State} {mX : MethodId} {argsX : Array Value} {blX : List Frame} {mtX : Method} {cX : Code} {QX : State → Prop} {D : va_G} {A : Nat → Prop} {B0 cells slots b L i : Nat} {xs : Nat → Int32} {Fr : va_W} (gX : zG pX sX mX argsX mtX cX cL_law 4 "StepRidersLaw" (some .boolean) D B0) (hAX : zA sX A B0) (hX : va_X b L xs sX sX.heap) (hbl : b < sX.heap.size) (hbA : ¬ A b) (hL : L ≤ 384) (hi6 : i + 6 ≤ L) (hl : l.stackTraces = false) (hNP : NatNpe) (hce : cells + 1000 ≤ 603072) (hsl : slots + 9000 ≤ 7262314) (o : Nat) (ad : Nat → Nat) (sa : Nat → Nat) (sb : Nat → Nat) (om : Nat) (am : Nat → Nat) (tr : Nat) (x : Nat → Int32) (xm : Nat → Int32) (da : Option Nat) (n : Nat) (ra : Nat → Nat) (md : Int32) (wn : Int32) (od : Nat → Int32) (c : Nat → Int32) (T : va_W) (k : Nat) (hS : sOK T da n k ra c) (hnm : c 17 = nI n) (hn7m : n ≤ 7)
    (kk : zJ pX l eX room_1 sX mX argsX blX mtX cX QX 4 (zI D A sX [cOb o ad (sa 0) (sb 0) tr x, mOb om am xm, [(am 5, .inl (D.1 100, 25, .inl c))], thP D sa ((da, n, ra), (md, wn, od), c), T, Fr]) (cells) (slots) 1149 [(0, .ref b), (1, .ref o), (2, .ref om), (3, .int (nI i))] []) :
    zJ pX l eX room_1 sX mX argsX blX mtX cX QX 4 (zI D A sX [cOb o ad (sa 0) (sb 0) tr x, mOb om am xm, [(am 5, .inl (D.1 100, 25, .inl c))], thP D sa ((da, n, ra), (md, wn, od), c), T, Fr]) cells slots 1001 [(0, .ref b), (1, .ref o), (2, .ref om), (3, .int (nI i))] [] := by
  refine z_aload_n (pc := 1001) gX 1 dL_law_1001 rfl rfl ?_
  refine z_aload_n (pc := 1002) gX 0 dL_law_1002 rfl rfl ?_
  refine z_iload_n (pc := 1003) gX 3 dL_law_1003 rfl rfl ?_
  refine z_iconst (pc := 1004) gX 1 dL_law_1004 (by decide) ?_
  refine z_iadd (pc := 1005) gX dL_law_1005 ?_
  refine z_top (nI (i + 1)) (nI_add i 1) ?_
  refine z_sld (pc := 1006) gX (j := (i + 1)) hX hbl hbA (by omega) hL dL_law_1006 ?_
  refine z_cOV (pc := 1007) gX (zI_ok gX hAX) [.int (xs (i + 1))] [] [0, 3, 4] (met_X0_kind l D B0 o ad sa sb tr x da n ra md wn od c T k (xs (i + 1)) (by first | assumption | omega)) q1208 q1209 q1210 q47 q1211 (zm 0 rfl) (ci := 0) rfl rfl hd_X0_kind ⟨rfl, rfl⟩ ⟨(Nat.le_of_ble_eq_true rfl), (Nat.le_of_ble_eq_true rfl)⟩ rfl rfl rfl (Nat.le_of_ble_eq_true rfl) ⟨by show _ ≤ (603072 : Nat); omega, by show _ ≤ (7262314 : Nat); omega⟩ dL_law_1007 ?_
  intro _ hu1007
  refine z_eq (lv₂ := [(0, .ref b), (1, .ref o), (2, .ref om), (3, .int (nI i))]) (st₂ := [.int (mKind c (xs (i + 1)))]) ?_ rfl rfl
  refine z_aload_n (pc := 1010) gX 2 dL_law_1010 rfl rfl ?_
  refine z_aload_n (pc := 1011) gX 0 dL_law_1011 rfl rfl ?_
  refine z_iload_n (pc := 1012) gX 3 dL_law_1012 rfl rfl ?_
  refine z_iconst (pc := 1013) gX 1 dL_law_1013 (by decide) ?_
  refine z_iadd (pc := 1014) gX dL_law_1014 ?_
  refine z_top (nI (i + 1)) (nI_add i 1) ?_
  refine z_sld (pc := 1015) gX (j := (i + 1)) hX hbl hbA (by omega) hL dL_law_1015 ?_
  refine z_cOV (pc := 1016) gX (zI_ok gX hAX) [.int (xs (i + 1))] [.int (mKind c (xs (i + 1)))] [1, 2] (met_X4_kind l D B0 om am xm c n (xs (i + 1)) (by first | assumption | omega) (by first | assumption | omega)) q1662 q1663 q1664 q54 q1665 (zm 1 rfl) (ci := 4) rfl rfl hd_X4_kind ⟨rfl, rfl⟩ ⟨(Nat.le_of_ble_eq_true rfl), (Nat.le_of_ble_eq_true rfl)⟩ rfl rfl rfl (Nat.le_of_ble_eq_true rfl) ⟨by show _ ≤ (603072 : Nat); omega, by show _ ≤ (7262314 : Nat); omega⟩ dL_law_1016 ?_
  intro _ hu1016
  refine z_eq (lv₂ := [(0, .ref b), (1, .ref o), (2, .ref om), (3, .int (nI i))]) (st₂ := [.int (mKind c (xs (i + 1))), .int (mKind c (xs (i + 1)))]) ?_ rfl rfl
  refine z_icmp_eq (pc := 1019) gX 1149 dL_law_1019 (by decide) (fun c1019 => ?_) (fun c1019 => ?_)
  · skip
    exact kk
  · skip
    exact absurd rfl c1019
set_option maxHeartbeats 4000000 in
theorem law_as {pX : Program} {l : Launch} {eX : Env} {sX : State} {mX : MethodId} {argsX : Array Value} {blX : List Frame} {mtX : Method} {cX : Code} {QX : State → Prop} {D : va_G} {A : Nat → Prop} {B0 cells slots b L i : Nat} {xs : Nat → Int32} {Fr : va_W} (gX : zG pX sX mX argsX mtX cX cL_law 4 "StepRidersLaw" (some .boolean) D B0) (hAX : zA sX A B0) (hX : va_X b L xs sX sX.heap) (hbl : b < sX.heap.size) (hbA : ¬ A b) (hL : L ≤ 384) (hi6 : i + 6 ≤ L) (hl : l.stackTraces = false) (hNP : NatNpe) (hce : cells + 1000 ≤ 603072) (hsl : slots + 9000 ≤ 7262314) (o : Nat) (ad : Nat → Nat) (sa : Nat → Nat) (sb : Nat → Nat) (om : Nat) (am : Nat → Nat) (tr : Nat) (x : Nat → Int32) (xm : Nat → Int32) (da : Option Nat) (n : Nat) (ra : Nat → Nat) (md : Int32) (wn : Int32) (od : Nat → Int32) (c : Nat → Int32) (T : va_W) (k : Nat) (hS : sOK T da n k ra c) (hx3 : x 3 = xm 0) (hnm : c 17 = nI n) (hn7m : n ≤ 7)
    (kk : ∀ (r__1035 : Int32) (xm1_1035 : Nat → Int32), ((r__1035, xm1_1035) = mAs xm c (xs (i + 1)) (xs (i + 2))) → zJ pX l eX room_1 sX mX argsX blX mtX cX QX 4 (zI D A sX [cOb o ad (sa 0) (sb 0) tr (upd x 3 (xm1_1035 0)), mOb om am xm1_1035, [(am 5, .inl (D.1 100, 25, .inl c))], thP D sa ((da, n, ra), (md, wn, od), c), T, Fr]) (cells + 3) (slots + 910) 1149 [(0, .ref b), (1, .ref o), (2, .ref om), (3, .int (nI i))] []) :
    zJ pX l eX room_1 sX mX argsX blX mtX cX QX 4 (zI D A sX [cOb o ad (sa 0) (sb 0) tr x, mOb om am xm, [(am 5, .inl (D.1 100, 25, .inl c))], thP D sa ((da, n, ra), (md, wn, od), c), T, Fr]) cells slots 1024 [(0, .ref b), (1, .ref o), (2, .ref om), (3, .int (nI i))] [] := by
  refine z_aload_n (pc := 1024) gX 1 dL_law_1024 rfl rfl ?_
  refine z_aload_n (pc := 1025) gX 0 dL_law_1025 rfl rfl ?_
  refine z_iload_n (pc := 1026) gX 3 dL_law_1026 rfl rfl ?_
  refine z_iconst (pc := 1027) gX 1 dL_law_1027 (by decide) ?_
  refine z_iadd (pc := 1028) gX dL_law_1028 ?_
  refine z_top (nI (i + 1)) (nI_add i 1) ?_
  refine z_sld (pc := 1029) gX (j := (i + 1)) hX hbl hbA (by omega) hL dL_law_1029 ?_
  refine z_aload_n (pc := 1030) gX 0 dL_law_1030 rfl rfl ?_
  refine z_iload_n (pc := 1031) gX 3 dL_law_1031 rfl rfl ?_
  refine z_iconst (pc := 1032) gX 2 dL_law_1032 (by decide) ?_
  refine z_iadd (pc := 1033) gX dL_law_1033 ?_
  refine z_top (nI (i + 2)) (nI_add i 2) ?_
  refine z_sld (pc := 1034) gX (j := (i + 2)) hX hbl hbA (by omega) hL dL_law_1034 ?_
  refine z_cMVW (pc := 1035) gX hAX [.int (xs (i + 1)), .int (xs (i + 2))] [] [0, 3, 4] [1, 2, 5] (fun A1 => met_X0_as l D B0 A1 o ad sa sb tr x da n ra md wn od c T k xm (xs (i + 1)) (xs (i + 2)) (by first | assumption | omega) (by first | assumption | omega) (by first | assumption | omega)) q1233 q1234 q1235 q47 q1236 (zm 0 rfl) (ci := 0) rfl rfl hd_X0_as ⟨rfl, rfl⟩ ⟨(Nat.le_of_ble_eq_true rfl), (Nat.le_of_ble_eq_true rfl)⟩ rfl rfl rfl rfl rfl (Nat.le_of_ble_eq_true rfl) ⟨by show _ ≤ (603072 : Nat); omega, by show _ ≤ (7262314 : Nat); omega⟩ dL_law_1035 ?_
  intro u1035 hu1035
  obtain ⟨r__1035, xm1_1035⟩ := u1035
  have hu1035 : (r__1035, xm1_1035) = mAs xm c (xs (i + 1)) (xs (i + 2)) := hu1035
  refine z_re [0, 3, 4, 1, 2, 5] [cOb o ad (sa 0) (sb 0) tr (upd x 3 (xm1_1035 0)), mOb om am xm, [(am 5, .inl (D.1 100, 25, .inl c))], thP D sa ((da, n, ra), (md, wn, od), c), T, Fr] rfl rfl ?_
  refine z_norm [cOb o ad (sa 0) (sb 0) tr (upd x 3 (xm1_1035 0)), mOb om am xm, [(am 5, .inl (D.1 100, 25, .inl c))], thP D sa ((da, n, ra), (md, wn, od), c), T, Fr] (cells + 3) (slots + 910) ?_ rfl rfl rfl
  refine z_eq (lv₂ := [(0, .ref b), (1, .ref o), (2, .ref om), (3, .int (nI i))]) (st₂ := [.int r__1035]) ?_ rfl rfl
  refine z_aload_n (pc := 1038) gX 2 dL_law_1038 rfl rfl ?_
  refine z_aload_n (pc := 1039) gX 0 dL_law_1039 rfl rfl ?_
  refine z_iload_n (pc := 1040) gX 3 dL_law_1040 rfl rfl ?_
  refine z_iconst (pc := 1041) gX 1 dL_law_1041 (by decide) ?_
  refine z_iadd (pc := 1042) gX dL_law_1042 ?_
  refine z_top (nI (i + 1)) (nI_add i 1) ?_
  refine z_sld (pc := 1043) gX (j := (i + 1)) hX hbl hbA (by omega) hL dL_law_1043 ?_
  refine z_aload_n (pc := 1044) gX 0 dL_law_1044 rfl rfl ?_
  refine z_iload_n (pc := 1045) gX 3 dL_law_1045 rfl rfl ?_
  refine z_iconst (pc := 1046) gX 2 dL_law_1046 (by decide) ?_
  refine z_iadd (pc := 1047) gX dL_law_1047 ?_
  refine z_top (nI (i + 2)) (nI_add i 2) ?_
  refine z_sld (pc := 1048) gX (j := (i + 2)) hX hbl hbA (by omega) hL dL_law_1048 ?_
  refine z_cMV (pc := 1049) gX hAX [.int (xs (i + 1)), .int (xs (i + 2))] [.int r__1035] [1, 2] [0, 3, 4, 5] (fun A1 => met_X4_as l D B0 A1 om am xm c n (xs (i + 1)) (xs (i + 2)) (by first | assumption | omega) (by first | assumption | omega)) q1666 q1667 q1668 q54 q1669 (zm 1 rfl) (ci := 4) rfl rfl hd_X4_as ⟨rfl, rfl⟩ ⟨(Nat.le_of_ble_eq_true rfl), (Nat.le_of_ble_eq_true rfl)⟩ rfl rfl rfl rfl rfl (Nat.le_of_ble_eq_true rfl) ⟨by show _ ≤ (603072 : Nat); omega, by show _ ≤ (7262314 : Nat); omega⟩ dL_law_1049 ?_
  intro u1049 hu1049
  obtain ⟨r__1049, x1_1049⟩ := u1049
  have hu1049 : (r__1049, x1_1049) = mAs xm c (xs (i + 1)) (xs (i + 2)) := hu1049
  refine z_re [2, 0, 1, 3, 4, 5] [cOb o ad (sa 0) (sb 0) tr (upd x 3 (xm1_1035 0)), mOb om am x1_1049, [(am 5, .inl (D.1 100, 25, .inl c))], thP D sa ((da, n, ra), (md, wn, od), c), T, Fr] rfl rfl ?_
  refine z_eq (lv₂ := [(0, .ref b), (1, .ref o), (2, .ref om), (3, .int (nI i))]) (st₂ := [.int r__1049, .int r__1035]) ?_ rfl rfl
  have he := (hu1035).trans (hu1049).symm
  simp only [Prod.mk.injEq] at he
  obtain ⟨rfl, rfl⟩ := he
  refine z_icmp_eq (pc := 1052) gX 1149 dL_law_1052 (by decide) (fun c1052 => ?_) (fun c1052 => ?_)
  · skip
    exact kk r__1035 xm1_1035 hu1035
  · skip
    exact absurd rfl c1052
set_option maxHeartbeats 4000000 in
theorem law_ask {pX : Program} {l : Launch} {eX : Env} {sX : State} {mX : MethodId} {argsX : Array Value} {blX : List Frame} {mtX : Method} {cX : Code} {QX : State → Prop} {D : va_G} {A : Nat → Prop} {B0 cells slots b L i : Nat} {xs : Nat → Int32} {Fr : va_W} (gX : zG pX sX mX argsX mtX cX cL_law 4 "StepRidersLaw" (some .boolean) D B0) (hAX : zA sX A B0) (hX : va_X b L xs sX sX.heap) (hbl : b < sX.heap.size) (hbA : ¬ A b) (hL : L ≤ 384) (hi6 : i + 6 ≤ L) (hl : l.stackTraces = false) (hNP : NatNpe) (hce : cells + 1000 ≤ 603072) (hsl : slots + 9000 ≤ 7262314) (o : Nat) (ad : Nat → Nat) (sa : Nat → Nat) (sb : Nat → Nat) (om : Nat) (am : Nat → Nat) (tr : Nat) (x : Nat → Int32) (tb : Nat) (t : Nat) (tf : Nat → Int32) (xm : Nat → Int32) (trm : Nat → Int32) (da : Option Nat) (n : Nat) (ra : Nat → Nat) (md : Int32) (wn : Int32) (od : Nat → Int32) (c : Nat → Int32) (T : va_W) (k : Nat) (hS : sOK T da n k ra c) (hnm : c 17 = nI n) (hn7m : n ≤ 7) (ht : t ≤ 16)
    (kk : ∀ (r__1068 : Int32) (tr1_1068 : Nat) (tb1_1068 : Nat) (t1_1068 : Nat) (tf1_1068 : Nat → Int32) (x1_1082 : Nat → Int32) (tr1_1082 : Nat → Int32), (askR c (xs (i + 1)) (xs (i + 2)) t tf r__1068 t1_1068 tf1_1068) → (askM c (xs (i + 1)) (xs (i + 2)) xm trm x1_1082 tr1_1082) → zJ pX l eX room_1 sX mX argsX blX mtX cX QX 4 (zI D A sX [cOb o ad (sa 0) (sb 0) tr1_1068 x, [(tr1_1068, .inr (3, [.ref tb1_1068, .int (nI t1_1068)]))], [(tb1_1068, .inl (D.1 100, 16, .inl tf1_1068))], mOb om am x1_1082, [(am 5, .inl (D.1 100, 25, .inl c))], [(am 12, .inl (D.1 100, 16, .inl tr1_1082))], thP D sa ((da, n, ra), (md, wn, od), c), T, Fr]) (cells + 3) (slots + 20) 1149 [(0, .ref b), (1, .ref o), (2, .ref om), (3, .int (nI i))] []) :
    zJ pX l eX room_1 sX mX argsX blX mtX cX QX 4 (zI D A sX [cOb o ad (sa 0) (sb 0) tr x, [(tr, .inr (3, [.ref tb, .int (nI t)]))], [(tb, .inl (D.1 100, 16, .inl tf))], mOb om am xm, [(am 5, .inl (D.1 100, 25, .inl c))], [(am 12, .inl (D.1 100, 16, .inl trm))], thP D sa ((da, n, ra), (md, wn, od), c), T, Fr]) cells slots 1057 [(0, .ref b), (1, .ref o), (2, .ref om), (3, .int (nI i))] [] := by
  refine z_aload_n (pc := 1057) gX 1 dL_law_1057 rfl rfl ?_
  refine z_aload_n (pc := 1058) gX 0 dL_law_1058 rfl rfl ?_
  refine z_iload_n (pc := 1059) gX 3 dL_law_1059 rfl rfl ?_
  refine z_iconst (pc := 1060) gX 1 dL_law_1060 (by decide) ?_
  refine z_iadd (pc := 1061) gX dL_law_1061 ?_
  refine z_top (nI (i + 1)) (nI_add i 1) ?_
  refine z_sld (pc := 1062) gX (j := (i + 1)) hX hbl hbA (by omega) hL dL_law_1062 ?_
  refine z_aload_n (pc := 1063) gX 0 dL_law_1063 rfl rfl ?_
  refine z_iload_n (pc := 1064) gX 3 dL_law_1064 rfl rfl ?_
  refine z_iconst (pc := 1065) gX 2 dL_law_1065 (by decide) ?_
  refine z_iadd (pc := 1066) gX dL_law_1066 ?_
  refine z_top (nI (i + 2)) (nI_add i 2) ?_
  refine z_sld (pc := 1067) gX (j := (i + 2)) hX hbl hbA (by omega) hL dL_law_1067 ?_
  refine z_cMV (pc := 1068) gX hAX [.int (xs (i + 1)), .int (xs (i + 2))] [] [0, 1, 2, 6, 7] [3, 4, 5, 8] (fun A1 => met_X0_ask l D B0 A1 o ad sa sb tr x da n ra md wn od c T k tb t tf (xs (i + 1)) (xs (i + 2)) (by first | assumption | omega)) q1256 q1257 q1258 q47 q1259 (zm 0 rfl) (ci := 0) rfl rfl hd_X0_ask ⟨rfl, rfl⟩ ⟨(Nat.le_of_ble_eq_true rfl), (Nat.le_of_ble_eq_true rfl)⟩ rfl rfl (zpl 9 rfl (by decide +kernel)) rfl rfl (Nat.le_of_ble_eq_true rfl) ⟨by show _ ≤ (603072 : Nat); omega, by show _ ≤ (7262314 : Nat); omega⟩ dL_law_1068 ?_
  intro u1068 hu1068
  obtain ⟨r__1068, tr1_1068, tb1_1068, t1_1068, tf1_1068⟩ := u1068
  have hu1068 : askR c (xs (i + 1)) (xs (i + 2)) t tf r__1068 t1_1068 tf1_1068 := hu1068
  refine z_re [0, 1, 2, 5, 6, 7, 3, 4, 8] [cOb o ad (sa 0) (sb 0) tr1_1068 x, [(tr1_1068, .inr (3, [.ref tb1_1068, .int (nI t1_1068)]))], [(tb1_1068, .inl (D.1 100, 16, .inl tf1_1068))], mOb om am xm, [(am 5, .inl (D.1 100, 25, .inl c))], [(am 12, .inl (D.1 100, 16, .inl trm))], thP D sa ((da, n, ra), (md, wn, od), c), T, Fr] rfl (zpl 9 rfl (by decide +kernel)) ?_
  refine z_norm [cOb o ad (sa 0) (sb 0) tr1_1068 x, [(tr1_1068, .inr (3, [.ref tb1_1068, .int (nI t1_1068)]))], [(tb1_1068, .inl (D.1 100, 16, .inl tf1_1068))], mOb om am xm, [(am 5, .inl (D.1 100, 25, .inl c))], [(am 12, .inl (D.1 100, 16, .inl trm))], thP D sa ((da, n, ra), (md, wn, od), c), T, Fr] (cells + 3) (slots + 20) ?_ rfl rfl rfl
  refine z_eq (lv₂ := [(0, .ref b), (1, .ref o), (2, .ref om), (3, .int (nI i))]) (st₂ := [.int r__1068]) ?_ rfl rfl
  refine z_aload_n (pc := 1071) gX 2 dL_law_1071 rfl rfl ?_
  refine z_aload_n (pc := 1072) gX 0 dL_law_1072 rfl rfl ?_
  refine z_iload_n (pc := 1073) gX 3 dL_law_1073 rfl rfl ?_
  refine z_iconst (pc := 1074) gX 1 dL_law_1074 (by decide) ?_
  refine z_iadd (pc := 1075) gX dL_law_1075 ?_
  refine z_top (nI (i + 1)) (nI_add i 1) ?_
  refine z_sld (pc := 1076) gX (j := (i + 1)) hX hbl hbA (by omega) hL dL_law_1076 ?_
  refine z_aload_n (pc := 1077) gX 0 dL_law_1077 rfl rfl ?_
  refine z_iload_n (pc := 1078) gX 3 dL_law_1078 rfl rfl ?_
  refine z_iconst (pc := 1079) gX 2 dL_law_1079 (by decide) ?_
  refine z_iadd (pc := 1080) gX dL_law_1080 ?_
  refine z_top (nI (i + 2)) (nI_add i 2) ?_
  refine z_sld (pc := 1081) gX (j := (i + 2)) hX hbl hbA (by omega) hL dL_law_1081 ?_
  refine z_cMV (pc := 1082) gX hAX [.int (xs (i + 1)), .int (xs (i + 2))] [.int r__1068] [3, 4, 5] [0, 1, 2, 6, 7, 8] (fun A1 => met_X4_ask l D B0 A1 om am xm c trm n (xs (i + 1)) (xs (i + 2)) (by first | assumption | omega) (by first | assumption | omega)) q1671 q1672 q1673 q54 q1674 (zm 3 rfl) (ci := 4) rfl rfl hd_X4_ask ⟨rfl, rfl⟩ ⟨(Nat.le_of_ble_eq_true rfl), (Nat.le_of_ble_eq_true rfl)⟩ rfl rfl (zpl 9 rfl (by decide +kernel)) rfl rfl (Nat.le_of_ble_eq_true rfl) ⟨by show _ ≤ (603072 : Nat); omega, by show _ ≤ (7262314 : Nat); omega⟩ dL_law_1082 ?_
  intro u1082 hu1082
  obtain ⟨r__1082, x1_1082, tr1_1082⟩ := u1082
  have hu1082 : (r__1082, x1_1082, tr1_1082) = mAsk c xm trm (xs (i + 1)) (xs (i + 2)) := hu1082
  refine z_re [3, 4, 5, 0, 1, 2, 6, 7, 8] [cOb o ad (sa 0) (sb 0) tr1_1068 x, [(tr1_1068, .inr (3, [.ref tb1_1068, .int (nI t1_1068)]))], [(tb1_1068, .inl (D.1 100, 16, .inl tf1_1068))], mOb om am x1_1082, [(am 5, .inl (D.1 100, 25, .inl c))], [(am 12, .inl (D.1 100, 16, .inl tr1_1082))], thP D sa ((da, n, ra), (md, wn, od), c), T, Fr] rfl (zpl 9 rfl (by decide +kernel)) ?_
  refine z_eq (lv₂ := [(0, .ref b), (1, .ref o), (2, .ref om), (3, .int (nI i))]) (st₂ := [.int r__1082, .int r__1068]) ?_ rfl rfl
  have hk := ask_same hu1068 hu1082
  have hk1 := hk.1
  subst hk1
  refine z_icmp_eq (pc := 1085) gX 1149 dL_law_1085 (by decide) (fun c1085 => ?_) (fun c1085 => ?_)
  · skip
    exact kk r__1068 tr1_1068 tb1_1068 t1_1068 tf1_1068 x1_1082 tr1_1082 hu1068 hk.2
  · skip
    exact absurd rfl c1085
set_option maxHeartbeats 4000000 in
theorem law_trace {pX : Program} {l : Launch} {eX : Env} {sX : State} {mX : MethodId} {argsX : Array Value} {blX : List Frame} {mtX : Method} {cX : Code} {QX : State → Prop} {D : va_G} {A : Nat → Prop} {B0 cells slots b L i : Nat} {xs : Nat → Int32} {Fr : va_W} (gX : zG pX sX mX argsX mtX cX cL_law 4 "StepRidersLaw" (some .boolean) D B0) (hAX : zA sX A B0) (hX : va_X b L xs sX sX.heap) (hbl : b < sX.heap.size) (hbA : ¬ A b) (hL : L ≤ 384) (hi6 : i + 6 ≤ L) (hl : l.stackTraces = false) (hNP : NatNpe) (hce : cells + 1000 ≤ 603072) (hsl : slots + 9000 ≤ 7262314) (o : Nat) (ad : Nat → Nat) (sa : Nat → Nat) (sb : Nat → Nat) (om : Nat) (am : Nat → Nat) (tr : Nat) (x : Nat → Int32) (tb : Nat) (t : Nat) (tf : Nat → Int32) (xm : Nat → Int32) (trm : Nat → Int32) (ht : t ≤ 16) (htm : xm 4 = nI t) (htr : ∀ z, z < t → tf z = trm z)
    (kk : zJ pX l eX room_1 sX mX argsX blX mtX cX QX 4 (zI D A sX [cOb o ad (sa 0) (sb 0) tr x, [(tr, .inr (3, [.ref tb, .int (nI t)]))], [(tb, .inl (D.1 100, 16, .inl tf))], mOb om am xm, [(am 12, .inl (D.1 100, 16, .inl trm))], Fr]) (cells) (slots) 1149 [(0, .ref b), (1, .ref o), (2, .ref om), (3, .int (nI i))] []) :
    zJ pX l eX room_1 sX mX argsX blX mtX cX QX 4 (zI D A sX [cOb o ad (sa 0) (sb 0) tr x, [(tr, .inr (3, [.ref tb, .int (nI t)]))], [(tb, .inl (D.1 100, 16, .inl tf))], mOb om am xm, [(am 12, .inl (D.1 100, 16, .inl trm))], Fr]) cells slots 1090 [(0, .ref b), (1, .ref o), (2, .ref om), (3, .int (nI i))] [] := by
  refine z_aload_n (pc := 1090) gX 1 dL_law_1090 rfl rfl ?_
  refine z_aload_n (pc := 1091) gX 0 dL_law_1091 rfl rfl ?_
  refine z_iload_n (pc := 1092) gX 3 dL_law_1092 rfl rfl ?_
  refine z_iconst (pc := 1093) gX 1 dL_law_1093 (by decide) ?_
  refine z_iadd (pc := 1094) gX dL_law_1094 ?_
  refine z_top (nI (i + 1)) (nI_add i 1) ?_
  refine z_sld (pc := 1095) gX (j := (i + 1)) hX hbl hbA (by omega) hL dL_law_1095 ?_
  refine z_cOV (pc := 1096) gX (zI_ok gX hAX) [.int (xs (i + 1))] [] [0, 1, 2] (met_X0_trace l D B0 o ad sa sb tr x tb t tf (xs (i + 1)) (by first | assumption | omega)) q1364 q1365 q1366 q47 q1367 (zm 0 rfl) (ci := 0) rfl rfl hd_X0_trace ⟨rfl, rfl⟩ ⟨(Nat.le_of_ble_eq_true rfl), (Nat.le_of_ble_eq_true rfl)⟩ rfl rfl rfl (Nat.le_of_ble_eq_true rfl) ⟨by show _ ≤ (603072 : Nat); omega, by show _ ≤ (7262314 : Nat); omega⟩ dL_law_1096 ?_
  intro _ hu1096
  refine z_eq (lv₂ := [(0, .ref b), (1, .ref o), (2, .ref om), (3, .int (nI i))]) (st₂ := [.int (mTrace t tf (xs (i + 1)))]) ?_ rfl rfl
  refine z_aload_n (pc := 1099) gX 2 dL_law_1099 rfl rfl ?_
  refine z_aload_n (pc := 1100) gX 0 dL_law_1100 rfl rfl ?_
  refine z_iload_n (pc := 1101) gX 3 dL_law_1101 rfl rfl ?_
  refine z_iconst (pc := 1102) gX 1 dL_law_1102 (by decide) ?_
  refine z_iadd (pc := 1103) gX dL_law_1103 ?_
  refine z_top (nI (i + 1)) (nI_add i 1) ?_
  refine z_sld (pc := 1104) gX (j := (i + 1)) hX hbl hbA (by omega) hL dL_law_1104 ?_
  refine z_cOV (pc := 1105) gX (zI_ok gX hAX) [.int (xs (i + 1))] [.int (mTrace t tf (xs (i + 1)))] [3, 4] (met_X4_trace l D B0 om am xm trm t (xs (i + 1)) (by first | assumption | omega) (by first | assumption | omega)) q1687 q1688 q1689 q54 q1690 (zm 3 rfl) (ci := 4) rfl rfl hd_X4_trace ⟨rfl, rfl⟩ ⟨(Nat.le_of_ble_eq_true rfl), (Nat.le_of_ble_eq_true rfl)⟩ rfl rfl rfl (Nat.le_of_ble_eq_true rfl) ⟨by show _ ≤ (603072 : Nat); omega, by show _ ≤ (7262314 : Nat); omega⟩ dL_law_1105 ?_
  intro _ hu1105
  refine z_eq (lv₂ := [(0, .ref b), (1, .ref o), (2, .ref om), (3, .int (nI i))]) (st₂ := [.int (mTrace t trm (xs (i + 1))), .int (mTrace t tf (xs (i + 1)))]) ?_ rfl rfl
  refine z_icmp_eq (pc := 1108) gX 1149 dL_law_1108 (by decide) (fun c1108 => ?_) (fun c1108 => ?_)
  · skip
    exact kk
  · skip
    exact absurd (tr_same htr) c1108
set_option maxHeartbeats 4000000 in
theorem law_count {pX : Program} {l : Launch} {eX : Env} {sX : State} {mX : MethodId} {argsX : Array Value} {blX : List Frame} {mtX : Method} {cX : Code} {QX : State → Prop} {D : va_G} {A : Nat → Prop} {B0 cells slots b L i : Nat} {xs : Nat → Int32} {Fr : va_W} (gX : zG pX sX mX argsX mtX cX cL_law 4 "StepRidersLaw" (some .boolean) D B0) (hAX : zA sX A B0) (hX : va_X b L xs sX sX.heap) (hbl : b < sX.heap.size) (hbA : ¬ A b) (hL : L ≤ 384) (hi6 : i + 6 ≤ L) (hl : l.stackTraces = false) (hNP : NatNpe) (hce : cells + 1000 ≤ 603072) (hsl : slots + 9000 ≤ 7262314) (o : Nat) (ad : Nat → Nat) (sa : Nat → Nat) (sb : Nat → Nat) (sh : Nat → Nat) (om : Nat) (am : Nat → Nat) (tr : Nat) (x : Nat → Int32) (xm : Nat → Int32) (sz : Nat → Int32) (wd : Nat → Int32) (it : Nat → Int32) (da : Option Nat) (n : Nat) (ra : Nat → Nat) (md : Int32) (wn : Int32) (od : Nat → Int32) (c : Nat → Int32) (rw : Nat → rT) (T : va_W) (k : Nat) (hS : sOK T da n k ra c) (hx0 : x 0 = xm 1) (hx2 : x 2 = xm 3) (hW : rwR rw sz wd it) (hnm : c 17 = nI n) (hn7m : n ≤ 7)
    (kk : zJ pX l eX room_1 sX mX argsX blX mtX cX QX 4 (zI D A sX [cOb o ad (sa 0) (sb 0) tr x, [(ad 0, .inl (D.1 105, 8, .inr (.inr (.inr (.inr (rF sh 8))))))], mOb om am xm, [(am 0, .inl (D.1 100, 8, .inl sz))], [(am 5, .inl (D.1 100, 25, .inl c))], thP D sa ((da, n, ra), (md, wn, od), c), slP D sh rw 8, T, Fr]) (cells) (slots) 1149 [(0, .ref b), (1, .ref o), (2, .ref om), (3, .int (nI i))] []) :
    zJ pX l eX room_1 sX mX argsX blX mtX cX QX 4 (zI D A sX [cOb o ad (sa 0) (sb 0) tr x, [(ad 0, .inl (D.1 105, 8, .inr (.inr (.inr (.inr (rF sh 8))))))], mOb om am xm, [(am 0, .inl (D.1 100, 8, .inl sz))], [(am 5, .inl (D.1 100, 25, .inl c))], thP D sa ((da, n, ra), (md, wn, od), c), slP D sh rw 8, T, Fr]) cells slots 1113 [(0, .ref b), (1, .ref o), (2, .ref om), (3, .int (nI i))] [] := by
  refine z_aload_n (pc := 1113) gX 1 dL_law_1113 rfl rfl ?_
  refine z_aload_n (pc := 1114) gX 0 dL_law_1114 rfl rfl ?_
  refine z_iload_n (pc := 1115) gX 3 dL_law_1115 rfl rfl ?_
  refine z_iconst (pc := 1116) gX 1 dL_law_1116 (by decide) ?_
  refine z_iadd (pc := 1117) gX dL_law_1117 ?_
  refine z_top (nI (i + 1)) (nI_add i 1) ?_
  refine z_sld (pc := 1118) gX (j := (i + 1)) hX hbl hbA (by omega) hL dL_law_1118 ?_
  refine z_cOV (pc := 1119) gX (zI_ok gX hAX) [.int (xs (i + 1))] [] [0, 1, 5, 6, 7] (met_X0_count l D B0 o ad sa sb tr x da n ra md wn od c T k sh rw xm sz wd it (xs (i + 1)) (by first | assumption | omega) (by first | assumption | omega) (by first | assumption | omega) (by first | assumption | omega)) q1368 q1369 q1370 q47 q1371 (zm 0 rfl) (ci := 0) rfl rfl hd_X0_count ⟨rfl, rfl⟩ ⟨(Nat.le_of_ble_eq_true rfl), (Nat.le_of_ble_eq_true rfl)⟩ rfl rfl rfl (Nat.le_of_ble_eq_true rfl) ⟨by show _ ≤ (603072 : Nat); omega, by show _ ≤ (7262314 : Nat); omega⟩ dL_law_1119 ?_
  intro _ hu1119
  refine z_eq (lv₂ := [(0, .ref b), (1, .ref o), (2, .ref om), (3, .int (nI i))]) (st₂ := [.int (mCount n xm sz c (xs (i + 1)))]) ?_ rfl rfl
  refine z_aload_n (pc := 1122) gX 2 dL_law_1122 rfl rfl ?_
  refine z_aload_n (pc := 1123) gX 0 dL_law_1123 rfl rfl ?_
  refine z_iload_n (pc := 1124) gX 3 dL_law_1124 rfl rfl ?_
  refine z_iconst (pc := 1125) gX 1 dL_law_1125 (by decide) ?_
  refine z_iadd (pc := 1126) gX dL_law_1126 ?_
  refine z_top (nI (i + 1)) (nI_add i 1) ?_
  refine z_sld (pc := 1127) gX (j := (i + 1)) hX hbl hbA (by omega) hL dL_law_1127 ?_
  refine z_cOV (pc := 1128) gX (zI_ok gX hAX) [.int (xs (i + 1))] [.int (mCount n xm sz c (xs (i + 1)))] [2, 3, 4] (met_X4_count l D B0 om am xm sz c n (xs (i + 1)) (by first | assumption | omega) (by first | assumption | omega)) q1691 q1692 q1693 q54 q1694 (zm 2 rfl) (ci := 4) rfl rfl hd_X4_count ⟨rfl, rfl⟩ ⟨(Nat.le_of_ble_eq_true rfl), (Nat.le_of_ble_eq_true rfl)⟩ rfl rfl rfl (Nat.le_of_ble_eq_true rfl) ⟨by show _ ≤ (603072 : Nat); omega, by show _ ≤ (7262314 : Nat); omega⟩ dL_law_1128 ?_
  intro _ hu1128
  refine z_eq (lv₂ := [(0, .ref b), (1, .ref o), (2, .ref om), (3, .int (nI i))]) (st₂ := [.int (mCount n xm sz c (xs (i + 1))), .int (mCount n xm sz c (xs (i + 1)))]) ?_ rfl rfl
  refine z_icmp_eq (pc := 1131) gX 1149 dL_law_1131 (by decide) (fun c1131 => ?_) (fun c1131 => ?_)
  · skip
    exact kk
  · skip
    exact absurd rfl c1131
set_option maxHeartbeats 4000000 in
theorem law_status {pX : Program} {l : Launch} {eX : Env} {sX : State} {mX : MethodId} {argsX : Array Value} {blX : List Frame} {mtX : Method} {cX : Code} {QX : State → Prop} {D : va_G} {A : Nat → Prop} {B0 cells slots b L i : Nat} {xs : Nat → Int32} {Fr : va_W} (gX : zG pX sX mX argsX mtX cX cL_law 4 "StepRidersLaw" (some .boolean) D B0) (hAX : zA sX A B0) (hX : va_X b L xs sX sX.heap) (hbl : b < sX.heap.size) (hbA : ¬ A b) (hL : L ≤ 384) (hi6 : i + 6 ≤ L) (hl : l.stackTraces = false) (hNP : NatNpe) (hce : cells + 1000 ≤ 603072) (hsl : slots + 9000 ≤ 7262314) (o : Nat) (ad : Nat → Nat) (sa : Nat → Nat) (sb : Nat → Nat) (om : Nat) (am : Nat → Nat) (tr : Nat) (x : Nat → Int32) (xm : Nat → Int32) (hx3 : x 3 = xm 0)
    (kk : zJ pX l eX room_1 sX mX argsX blX mtX cX QX 4 (zI D A sX [cOb o ad (sa 0) (sb 0) tr x, mOb om am xm, Fr]) (cells) (slots) 1149 [(0, .ref b), (1, .ref o), (2, .ref om), (3, .int (nI i))] []) :
    zJ pX l eX room_1 sX mX argsX blX mtX cX QX 4 (zI D A sX [cOb o ad (sa 0) (sb 0) tr x, mOb om am xm, Fr]) cells slots 1136 [(0, .ref b), (1, .ref o), (2, .ref om), (3, .int (nI i))] [] := by
  refine z_aload_n (pc := 1136) gX 1 dL_law_1136 rfl rfl ?_
  refine z_cOV (pc := 1137) gX (zI_ok gX hAX) [] [] [0] (met_X0_status l D B0 o ad sa sb tr x ) q1373 q1374 q1375 q47 q1376 (zm 0 rfl) (ci := 0) rfl rfl hd_X0_status ⟨rfl, rfl⟩ ⟨(Nat.le_of_ble_eq_true rfl), (Nat.le_of_ble_eq_true rfl)⟩ rfl rfl rfl (Nat.le_of_ble_eq_true rfl) ⟨by show _ ≤ (603072 : Nat); omega, by show _ ≤ (7262314 : Nat); omega⟩ dL_law_1137 ?_
  intro _ hu1137
  refine z_eq (lv₂ := [(0, .ref b), (1, .ref o), (2, .ref om), (3, .int (nI i))]) (st₂ := [.int (x 3)]) ?_ rfl rfl
  refine z_aload_n (pc := 1140) gX 2 dL_law_1140 rfl rfl ?_
  refine z_cOV (pc := 1141) gX (zI_ok gX hAX) [] [.int (x 3)] [1] (met_X4_status l D B0 om am xm ) q1695 q1696 q1697 q54 q1698 (zm 1 rfl) (ci := 4) rfl rfl hd_X4_status ⟨rfl, rfl⟩ ⟨(Nat.le_of_ble_eq_true rfl), (Nat.le_of_ble_eq_true rfl)⟩ rfl rfl rfl (Nat.le_of_ble_eq_true rfl) ⟨by show _ ≤ (603072 : Nat); omega, by show _ ≤ (7262314 : Nat); omega⟩ dL_law_1141 ?_
  intro _ hu1141
  refine z_eq (lv₂ := [(0, .ref b), (1, .ref o), (2, .ref om), (3, .int (nI i))]) (st₂ := [.int (xm 0), .int (x 3)]) ?_ rfl rfl
  refine z_icmp_eq (pc := 1144) gX 1149 dL_law_1144 (by decide) (fun c1144 => ?_) (fun c1144 => ?_)
  · skip
    exact kk
  · skip
    exact absurd hx3 c1144
