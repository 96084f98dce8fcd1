/-! PROG p9: letters between signs of quotation -/
set_option maxRecDepth 100000
theorem scn_eq2 (f : Nat → Bool) : ∀ k p e, p ≤ e → e ≤ p + k → (∀ q, p ≤ q → q < e → f q = true) → f e = false → scn f k p = e := by
  intro k
  induction k with
  | zero => intro p e h1 h2 _ _; rw [scn_0]; omega
  | succ k ih =>
    intro p e h1 h2 h3 h4
    rw [scn_s]
    by_cases hp : p = e
    · subst hp
      rw [if_neg (by rw [h4]; decide)]
    · rw [if_pos (h3 p (Nat.le_refl _) (by omega))]
      exact ih (p + 1) e (by omega) (by omega) (fun q a b => h3 q (by omega) b) h4
theorem quo_L (t : Nat → Int32) (n : Nat) : ∀ f (s : Nat × Int32 × Nat) q, s.1 ≤ q → q < (quoS t n f s).1 → isL (bAt t n q) = true := by
  intro f
  induction f with
  | zero => intro s q h1 h2; have e : (quoS t n 0 s).1 = s.1 := rfl; omega
  | succ f ih =>
    intro s q h1 h2
    rw [quoS] at h2
    split at h2
    · rename_i h3
      by_cases hq : q = s.1
      · rw [hq]; exact h3.1
      · exact ih (s.1 + 1, bAt t n s.1, s.2.2 + 1) q (by show s.1 + 1 ≤ q; omega) h2
    · omega
theorem bAt_L {t : Nat → Int32} {n q : Nat} (h : isL (bAt t n q) = true) : q < n ∧ isL (t q) = true := by
  unfold bAt at h
  by_cases hq : q < n
  · rw [if_pos hq] at h; exact ⟨hq, h⟩
  · rw [if_neg hq] at h; exact absurd h (by decide)
/-- a token of letters -/
theorem lt_tok {t : Nat → Int32} {n i : Nat} (hn : n ≤ 6000) (hk : (tks t n i).2.1 = 4) : (tks t n i).2.2.1 = (tks t n i).1 + ltLen t (tks t n i).1 + 2 ∧ (tks t n i).1 + ltLen t (tks t n i).1 + 2 ≤ n ∧ ∀ q, (tks t n i).1 + 1 ≤ q → q < (tks t n i).1 + 1 + ltLen t (tks t n i).1 → isL (t q) = true := by
  rw [tks_lx] at hk ⊢
  generalize (tks t n i).1 = p at hk ⊢
  have k0 : ∀ {a : Nat} {x : Nat × Option Int32 × Option (UInt64 × Bool)}, ((a, x) : Lx).1 = 4 → a = 4 := fun h => h
  unfold lx at hk ⊢
  split at hk
  · exact absurd (k0 hk) (by decide)
  · rename_i h1
    rw [if_neg h1]
    split at hk
    · split at hk
      · exact absurd (k0 hk) (by decide)
      · split at hk <;> exact absurd (k0 hk) (by decide)
    · rename_i h2
      rw [if_neg h2]
      split at hk
      · have h9 := k0 hk
        split at h9 <;> exact absurd h9 (by decide)
      · rename_i h3
        rw [if_neg h3]
        split at hk
        · rename_i h4
          rw [if_pos h4]
          have h9 := k0 hk
          split at h9
          · rename_i h5
            show (quoS t n (n - (p + 1)) (p + 1, 0, 0)).1 + 1 = _ ∧ _
            have a1 := quo_L t n (n - (p + 1)) (p + 1, 0, 0)
            have a2 := (quoS_b t n (n - (p + 1)) (p + 1, 0, 0)).2
            generalize (quoS t n (n - (p + 1)) (p + 1, 0, 0)).1 = e at h5 a1 a2 ⊢
            have a2' : p + 1 ≤ e := a2
            have he : e < n ∧ t e = 34 := by
              unfold bAt at h5
              by_cases hq : e < n
              · rw [if_pos hq] at h5; exact ⟨hq, h5⟩
              · rw [if_neg hq] at h5; exact absurd h5 (by decide)
            have a3 : ∀ q, p + 1 ≤ q → q < e → isL (t q) = true := fun q b1 b2 => (bAt_L (a1 q b1 b2)).2
            have hs : scn (fun q => !decide (t q = 34)) (6000 - (p + 1)) (p + 1) = e := by
              refine scn_eq2 _ _ _ _ a2' (by omega) (fun q b1 b2 => ?_) (by show (!decide (t e = 34)) = false; rw [he.2]; rfl)
              have := (isL_iff _).mp (a3 q b1 b2)
              show (!decide (t q = 34)) = true
              rw [decide_eq_false]
              · rfl
              · intro h7
                rw [h7] at this
                exact absurd this.1 (by decide)
            have hl : ltLen t p = e - (p + 1) := by unfold ltLen; rw [hs]
            rw [hl]
            exact ⟨by omega, by omega, fun q b1 b2 => a3 q b1 (by omega)⟩
          · exact absurd h9 (by decide)
        · have h9 := k0 hk
          split at h9 <;> exact absurd h9 (by decide)
/-! bits -/
theorem o6_or (a b : Nat) : Int64.ofNat (a ||| b) = Int64.ofNat a ||| Int64.ofNat b := by
  apply Int64.toBitVec_inj.mp
  apply BitVec.eq_of_toNat_eq
  show (a ||| b) % 2 ^ 64 = a % 2 ^ 64 ||| b % 2 ^ 64
  exact Nat.or_mod_two_pow
theorem o6_bit {c : Int32} (h : isL c = true) : (1 : Int64) <<< ((c - 97).toInt64 &&& 63) = Int64.ofNat (2 ^ (c - 97).toInt.toNat) := by
  have hc := (isL_iff c).mp h
  have g : ∀ j, j < 26 → (1 : Int64) <<< ((i3 (97 + j) - 97).toInt64 &&& 63) = Int64.ofNat (2 ^ (i3 (97 + j) - 97).toInt.toNat) := by decide
  have e : c = i3 (97 + (c.toInt.toNat - 97)) := by
    apply Int32.toInt_inj.mp
    rw [i3_toInt (by omega)]
    omega
  rw [e]
  exact g _ (by omega)
theorem o6_0 (m : Int64) : m ||| Int64.ofNat 0 = m := by
  apply Int64.toBitVec_inj.mp
  apply BitVec.eq_of_toNat_eq
  show m.toBitVec.toNat ||| 0 = _
  exact Nat.or_zero _
theorem bitsL_c (x : Int32) (l : List Int32) : bitsL (x :: l) = bitsL l ||| 2 ^ x.toInt.toNat := rfl
theorem o6_step (m : Int64) (x : Int32) (l : List Int32) : m ||| Int64.ofNat (bitsL (x :: l)) = (m ||| Int64.ofNat (2 ^ x.toInt.toNat)) ||| Int64.ofNat (bitsL l) := by
  rw [bitsL_c, Nat.or_comm, o6_or, ← Int64.or_assoc]
theorem lc_0 : Int64.ofNat ((0 : Fin 2) : Nat) = 0 := rfl
theorem lc_1 : Int64.ofNat ((1 : Fin 2) : Nat) = 1 := rfl
theorem lt_loop {h : Hp} (H : FX h) {i e : Nat} (hi : i < 6002) (ht : gI h 174 i = i3 (e + 1)) (he : e + 1 ≤ 6000) (w : Nat) : ∀ f q (m : Int64), q + f = e → (∀ r, q ≤ r → r < e → isL (gI h 171 r) = true) → ev w M_X13_letters 12 [(0, .ref 170), (1, .int (i3 i)), (2, .long m), (4, .int (i3 q))] [] h = some (.inl (some (.long (m ||| Int64.ofNat (bitsL ((byF (gI h 171) q f).map fun c => c - 97))))), h) := by
  have e1 := inB_i3 (i := i) (n := 6002) hi (by decide)
  have e2 := i3_nat (n := i) (by omega)
  have es : i3 (e + 1) - 1 = i3 e := i3_sub (a := e + 1) (b := 1) (by omega) (by omega)
  intro f
  induction f with
  | zero =>
    intro q m hq hL
    have e0 : ¬ (i3 q < i3 e) := by rw [i3_lt (by omega) (by omega)]; omega
    rw [ev_at (M := M_X13_letters) dX13_letters_12]
    have ez : m ||| Int64.ofNat (bitsL ((byF (gI h 171) q 0).map fun c => c - 97)) = m := o6_0 m
    rw [ez]
    simp only [ev_at (M := M_X13_letters) dX13_letters_0, ev_at (M := M_X13_letters) dX13_letters_1, ev_at (M := M_X13_letters) dX13_letters_2, ev_at (M := M_X13_letters) dX13_letters_3, ev_at (M := M_X13_letters) dX13_letters_6, ev_at (M := M_X13_letters) dX13_letters_7, ev_at (M := M_X13_letters) dX13_letters_8, ev_at (M := M_X13_letters) dX13_letters_9, ev_at (M := M_X13_letters) dX13_letters_10, ev_at (M := M_X13_letters) dX13_letters_14, ev_at (M := M_X13_letters) dX13_letters_15, ev_at (M := M_X13_letters) dX13_letters_18, ev_at (M := M_X13_letters) dX13_letters_19, ev_at (M := M_X13_letters) dX13_letters_20, ev_at (M := M_X13_letters) dX13_letters_21, ev_at (M := M_X13_letters) dX13_letters_22, ev_at (M := M_X13_letters) dX13_letters_25, ev_at (M := M_X13_letters) dX13_letters_26, ev_at (M := M_X13_letters) dX13_letters_27, ev_at (M := M_X13_letters) dX13_letters_28, ev_at (M := M_X13_letters) dX13_letters_31, ev_at (M := M_X13_letters) dX13_letters_33, ev_at (M := M_X13_letters) dX13_letters_34, ev_at (M := M_X13_letters) dX13_letters_36, ev_at (M := M_X13_letters) dX13_letters_37, ev_at (M := M_X13_letters) dX13_letters_38, ev_at (M := M_X13_letters) dX13_letters_39, ev_at (M := M_X13_letters) dX13_letters_40, ev_at (M := M_X13_letters) dX13_letters_43, ev_at (M := M_X13_letters) dX13_letters_46, ev_at (M := M_X13_letters) dX13_letters_47, x_aload_n, x_baload, x_bipush, x_getfield, x_goto, x_iadd, x_iaload, x_iconst, x_if_icmp, x_iinc, x_iload, x_iload_n, x_istore, x_isub, x_lconst, x_lload_n, x_lor, x_lreturn, x_lshl, x_lstore_n, fT_43_67, fT_43_74, fT_43_78, o_X13_letters, r_X13_letters, l_X13_letters, h_X13_letters, cont_go, cont_rt, cont_th, cont_cal, cont_none, cont_ite, aftE_v, aftE_0, aftE_x, aftE_none, aftE_ite, hdk_h, hdk_0, kLd, kS1, kS2, kInc, goB, kIf, kIf2, kNul, kTab, ldK, ariK, kGet, kPut, kPuts, goO, kALd, kPutI, kPutL, kPutF, kPutD, kPutA, wI, wB, wC, wS, kLen, kNewa, kNewA, kNew, kNews, kNewX, kCast, kInst, calS, kStat, calV, nulT, kVirt, kRetI, kRetL, kRetF, kRetD, kRetA, kRet0, kThr, kSpc, calI, kStt, kNat, kCpy, tI_, tL_, tF_, tD_, tA_n, tA_r, tC1_i, tC1_f, tC1_r, tC2_l, tC2_d, tA_rf, lg_nil, lg_cons, lin_nil, lin_cons, lf1_nil, lf1_cons, lf2_nil, lf2_cons, ls1, ls2, lent_nil, lent_cons, cat_int, cat_long, cat_float, cat_double, cat_null, cat_ref, cat_rf, rf_some, rf_none, f4_0, f4_1, f4_2, f4_3, popN_0, popN_s, wds_nil, wds_cons, asc_nil, asc_cons, pI_c, pII_c, pL_c, pLL_c, pLI_c, pF_c, pFF_c, pD_c, pDD_c, mapc_some, mapc_none, mapc_ite, sdup_c, spop_c, sdupx1_c, sdup2_c, br1_eq, br1_ne, br1_lt, br1_ge, br1_gt, br1_le, br2_eq, br2_ne, br2_lt, br2_ge, br2_gt, br2_le, tgt, tgOk, hfd, gI_sI, gI_sL, gI_sF, gI_sD, gI_sR, gL_sI, gL_sL, gL_sF, gL_sD, gL_sR, gF_sI, gF_sL, gF_sF, gF_sD, gF_sR, gD_sI, gD_sL, gD_sF, gD_sD, gD_sR, gR_sI, gR_sL, gR_sF, gR_sD, gR_sR, gI_alo, gL_alo, gF_alo, gD_alo, gR_alo, kd_sI, kd_sL, kd_sF, kd_sD, kd_sR, nx_sI, nx_sL, nx_sF, nx_sD, nx_sR, nc_sI, nc_sL, nc_sF, nc_sD, nc_sR, ns_sI, ns_sL, ns_sF, ns_sD, ns_sR, kd_alo, nx_alo, nc_alo, ns_alo, narO_0, narO_1, narO_2, narO_3, narO_4, vF_0, vF_1, vF_2, vF_3, vF_4, vF_5, vF_6, vF_7, vF_8, stF_int, stF_long, stF_float, stF_double, stF_null, stF_ref, stF_rf, Nat.reduceAdd, Nat.reduceSub, Nat.reduceMul, Nat.reduceEqDiff, Nat.reduceBEq, Nat.reduceLeDiff, Nat.reduceBneDiff, Int.reduceAdd, Int.reduceSub, Int.reduceNeg, Int.reduceToNat, Int.reduceLE, Int.reduceLT, Int.cast_ofNat_Int, reduceIte, ite_true, ite_false, and_true, true_and, and_false, false_and, and_self, or_true, true_or, or_false, false_or, decide_true, decide_false, decide_eq_true_eq, eq_self, not_true_eq_false, not_false_eq_true, reduceCtorEq, Bool.false_eq_true, Nat.reduceLT, Int.ofNat_zero, Int.natCast_zero, hF_41_139, hF_41_143, hF_41_144, bp_97, ic_1, ct_204, ct_300, ct_200, ct_201, ct_301, ct_202, ct_203, ct_205, ct_206, ct_207, ct_210, ct_211, ct_212, ct_213, ct_214, ct_215, ct_216, ct_217, ct_218, ia_200, ia_201, ia_202, ia_203, ia_204, ia_205, ia_206, ia_207, ia_210, ia_211, ia_212, ia_213, ia_214, ia_215, ia_216, ia_217, ia_218, ia_300, ia_301, ne_eq, okd, okf, dc0, dc1, Fin.isValue, Fin.reduceEq, lit_eq, lit_m1, lit_m2, nb_0, nb_1, Nat.reduceMod, Int32.reduceLT, Int32.reduceAdd, Int32.reduceSub, Int32.reduceMul, kArT, fk_170 H, fr_170_139 H, fk_171 H, fr_170_143 H, fk_173 H, fr_170_144 H, fk_174 H, e1, e2, ht, es, e0]
  | succ f ih =>
    intro q m hq hL
    have e0 : i3 q < i3 e := by rw [i3_lt (by omega) (by omega)]; omega
    have e3 := inB_i3 (i := q) (n := 6000) (by omega) (by decide)
    have e4 := i3_nat (n := q) (by omega)
    have eb := o6_bit (hL q (Nat.le_refl _) (by omega))
    have ei := ih (q + 1) (m ||| Int64.ofNat (2 ^ (gI h 171 q - 97).toInt.toNat)) (by omega) (fun r a b => hL r (by omega) b)
    have eq : m ||| Int64.ofNat (bitsL ((byF (gI h 171) q (f + 1)).map fun c => c - 97)) = (m ||| Int64.ofNat (2 ^ (gI h 171 q - 97).toInt.toNat)) ||| Int64.ofNat (bitsL ((byF (gI h 171) (q + 1) f).map fun c => c - 97)) := o6_step m _ _
    rw [ev_at (M := M_X13_letters) dX13_letters_12, eq, ← ei]
    simp only [ev_at (M := M_X13_letters) dX13_letters_0, ev_at (M := M_X13_letters) dX13_letters_1, ev_at (M := M_X13_letters) dX13_letters_2, ev_at (M := M_X13_letters) dX13_letters_3, ev_at (M := M_X13_letters) dX13_letters_6, ev_at (M := M_X13_letters) dX13_letters_7, ev_at (M := M_X13_letters) dX13_letters_8, ev_at (M := M_X13_letters) dX13_letters_9, ev_at (M := M_X13_letters) dX13_letters_10, ev_at (M := M_X13_letters) dX13_letters_14, ev_at (M := M_X13_letters) dX13_letters_15, ev_at (M := M_X13_letters) dX13_letters_18, ev_at (M := M_X13_letters) dX13_letters_19, ev_at (M := M_X13_letters) dX13_letters_20, ev_at (M := M_X13_letters) dX13_letters_21, ev_at (M := M_X13_letters) dX13_letters_22, ev_at (M := M_X13_letters) dX13_letters_25, ev_at (M := M_X13_letters) dX13_letters_26, ev_at (M := M_X13_letters) dX13_letters_27, ev_at (M := M_X13_letters) dX13_letters_28, ev_at (M := M_X13_letters) dX13_letters_31, ev_at (M := M_X13_letters) dX13_letters_33, ev_at (M := M_X13_letters) dX13_letters_34, ev_at (M := M_X13_letters) dX13_letters_36, ev_at (M := M_X13_letters) dX13_letters_37, ev_at (M := M_X13_letters) dX13_letters_38, ev_at (M := M_X13_letters) dX13_letters_39, ev_at (M := M_X13_letters) dX13_letters_40, ev_at (M := M_X13_letters) dX13_letters_43, ev_at (M := M_X13_letters) dX13_letters_46, ev_at (M := M_X13_letters) dX13_letters_47, x_aload_n, x_baload, x_bipush, x_getfield, x_goto, x_iadd, x_iaload, x_iconst, x_if_icmp, x_iinc, x_iload, x_iload_n, x_istore, x_isub, x_lconst, x_lload_n, x_lor, x_lreturn, x_lshl, x_lstore_n, fT_43_67, fT_43_74, fT_43_78, o_X13_letters, r_X13_letters, l_X13_letters, h_X13_letters, cont_go, cont_rt, cont_th, cont_cal, cont_none, cont_ite, aftE_v, aftE_0, aftE_x, aftE_none, aftE_ite, hdk_h, hdk_0, kLd, kS1, kS2, kInc, goB, kIf, kIf2, kNul, kTab, ldK, ariK, kGet, kPut, kPuts, goO, kALd, kPutI, kPutL, kPutF, kPutD, kPutA, wI, wB, wC, wS, kLen, kNewa, kNewA, kNew, kNews, kNewX, kCast, kInst, calS, kStat, calV, nulT, kVirt, kRetI, kRetL, kRetF, kRetD, kRetA, kRet0, kThr, kSpc, calI, kStt, kNat, kCpy, tI_, tL_, tF_, tD_, tA_n, tA_r, tC1_i, tC1_f, tC1_r, tC2_l, tC2_d, tA_rf, lg_nil, lg_cons, lin_nil, lin_cons, lf1_nil, lf1_cons, lf2_nil, lf2_cons, ls1, ls2, lent_nil, lent_cons, cat_int, cat_long, cat_float, cat_double, cat_null, cat_ref, cat_rf, rf_some, rf_none, f4_0, f4_1, f4_2, f4_3, popN_0, popN_s, wds_nil, wds_cons, asc_nil, asc_cons, pI_c, pII_c, pL_c, pLL_c, pLI_c, pF_c, pFF_c, pD_c, pDD_c, mapc_some, mapc_none, mapc_ite, sdup_c, spop_c, sdupx1_c, sdup2_c, br1_eq, br1_ne, br1_lt, br1_ge, br1_gt, br1_le, br2_eq, br2_ne, br2_lt, br2_ge, br2_gt, br2_le, tgt, tgOk, hfd, gI_sI, gI_sL, gI_sF, gI_sD, gI_sR, gL_sI, gL_sL, gL_sF, gL_sD, gL_sR, gF_sI, gF_sL, gF_sF, gF_sD, gF_sR, gD_sI, gD_sL, gD_sF, gD_sD, gD_sR, gR_sI, gR_sL, gR_sF, gR_sD, gR_sR, gI_alo, gL_alo, gF_alo, gD_alo, gR_alo, kd_sI, kd_sL, kd_sF, kd_sD, kd_sR, nx_sI, nx_sL, nx_sF, nx_sD, nx_sR, nc_sI, nc_sL, nc_sF, nc_sD, nc_sR, ns_sI, ns_sL, ns_sF, ns_sD, ns_sR, kd_alo, nx_alo, nc_alo, ns_alo, narO_0, narO_1, narO_2, narO_3, narO_4, vF_0, vF_1, vF_2, vF_3, vF_4, vF_5, vF_6, vF_7, vF_8, stF_int, stF_long, stF_float, stF_double, stF_null, stF_ref, stF_rf, Nat.reduceAdd, Nat.reduceSub, Nat.reduceMul, Nat.reduceEqDiff, Nat.reduceBEq, Nat.reduceLeDiff, Nat.reduceBneDiff, Int.reduceAdd, Int.reduceSub, Int.reduceNeg, Int.reduceToNat, Int.reduceLE, Int.reduceLT, Int.cast_ofNat_Int, reduceIte, ite_true, ite_false, and_true, true_and, and_false, false_and, and_self, or_true, true_or, or_false, false_or, decide_true, decide_false, decide_eq_true_eq, eq_self, not_true_eq_false, not_false_eq_true, reduceCtorEq, Bool.false_eq_true, Nat.reduceLT, Int.ofNat_zero, Int.natCast_zero, hF_41_139, hF_41_143, hF_41_144, bp_97, ic_1, ct_204, ct_300, ct_200, ct_201, ct_301, ct_202, ct_203, ct_205, ct_206, ct_207, ct_210, ct_211, ct_212, ct_213, ct_214, ct_215, ct_216, ct_217, ct_218, ia_200, ia_201, ia_202, ia_203, ia_204, ia_205, ia_206, ia_207, ia_210, ia_211, ia_212, ia_213, ia_214, ia_215, ia_216, ia_217, ia_218, ia_300, ia_301, ne_eq, okd, okf, dc0, dc1, Fin.isValue, Fin.reduceEq, lit_eq, lit_m1, lit_m2, nb_0, nb_1, Nat.reduceMod, Int32.reduceLT, Int32.reduceAdd, Int32.reduceSub, Int32.reduceMul, kArT, fk_170 H, fr_170_139 H, fk_171 H, fr_170_143 H, fk_173 H, fr_170_144 H, fk_174 H, e1, e2, ht, es, e0, e3, e4, lc_1, eb, i3_succ]
theorem w_letters {h : Hp} (H : FX h) {i : Nat} (hi : i < 6002) {n : Nat} (hn : n ≤ 6000) (hf : gI h 173 i = i3 (tks (gI h 171) n i).1) (ht : gI h 174 i = i3 (tks (gI h 171) n i).2.2.1) (hk : tK (tkOf (gI h 171) n) i = 4) (w : Nat) : evM (w + 24) 470 [.ref 170, .int (i3 i)] h = some (.inl (some (.long (Int64.ofNat (bitsL (ltAt (gI h 171) (tks (gI h 171) n i).1))))), h) := by
  obtain ⟨a1, a2, a3⟩ := lt_tok hn (show (tks (gI h 171) n i).2.1 = 4 from hk)
  rw [a1] at ht
  have e1 := inB_i3 (i := i) (n := 6002) hi (by decide)
  have e2 := i3_nat (n := i) (by omega)
  have := lt_loop H (e := (tks (gI h 171) n i).1 + ltLen (gI h 171) (tks (gI h 171) n i).1 + 1) hi ht (by omega) w (ltLen (gI h 171) (tks (gI h 171) n i).1) ((tks (gI h 171) n i).1 + 1) 0 (by omega) (fun r b1 b2 => a3 r b1 (by omega))
  have ez : ∀ m : Int64, (0 : Int64) ||| m = m := fun m => by
    apply Int64.toBitVec_inj.mp
    apply BitVec.eq_of_toNat_eq
    show 0 ||| m.toBitVec.toNat = _
    exact Nat.zero_or _
  rw [ez] at this
  unfold ltAt
  rw [← this, evM_to M_X13_letters 0 24 _ (by rfl) (by rfl) (by rfl) (Nat.le_of_ble_eq_true rfl) (by rfl)]
  simp only [ev_at (M := M_X13_letters) dX13_letters_0, ev_at (M := M_X13_letters) dX13_letters_1, ev_at (M := M_X13_letters) dX13_letters_2, ev_at (M := M_X13_letters) dX13_letters_3, ev_at (M := M_X13_letters) dX13_letters_6, ev_at (M := M_X13_letters) dX13_letters_7, ev_at (M := M_X13_letters) dX13_letters_8, ev_at (M := M_X13_letters) dX13_letters_9, ev_at (M := M_X13_letters) dX13_letters_10, ev_at (M := M_X13_letters) dX13_letters_14, ev_at (M := M_X13_letters) dX13_letters_15, ev_at (M := M_X13_letters) dX13_letters_18, ev_at (M := M_X13_letters) dX13_letters_19, ev_at (M := M_X13_letters) dX13_letters_20, ev_at (M := M_X13_letters) dX13_letters_21, ev_at (M := M_X13_letters) dX13_letters_22, ev_at (M := M_X13_letters) dX13_letters_25, ev_at (M := M_X13_letters) dX13_letters_26, ev_at (M := M_X13_letters) dX13_letters_27, ev_at (M := M_X13_letters) dX13_letters_28, ev_at (M := M_X13_letters) dX13_letters_31, ev_at (M := M_X13_letters) dX13_letters_33, ev_at (M := M_X13_letters) dX13_letters_34, ev_at (M := M_X13_letters) dX13_letters_36, ev_at (M := M_X13_letters) dX13_letters_37, ev_at (M := M_X13_letters) dX13_letters_38, ev_at (M := M_X13_letters) dX13_letters_39, ev_at (M := M_X13_letters) dX13_letters_40, ev_at (M := M_X13_letters) dX13_letters_43, ev_at (M := M_X13_letters) dX13_letters_46, ev_at (M := M_X13_letters) dX13_letters_47, x_aload_n, x_baload, x_bipush, x_getfield, x_goto, x_iadd, x_iaload, x_iconst, x_if_icmp, x_iinc, x_iload, x_iload_n, x_istore, x_isub, x_lconst, x_lload_n, x_lor, x_lreturn, x_lshl, x_lstore_n, fT_43_67, fT_43_74, fT_43_78, o_X13_letters, r_X13_letters, l_X13_letters, h_X13_letters, cont_go, cont_rt, cont_th, cont_cal, cont_none, cont_ite, aftE_v, aftE_0, aftE_x, aftE_none, aftE_ite, hdk_h, hdk_0, kLd, kS1, kS2, kInc, goB, kIf, kIf2, kNul, kTab, ldK, ariK, kGet, kPut, kPuts, goO, kALd, kPutI, kPutL, kPutF, kPutD, kPutA, wI, wB, wC, wS, kLen, kNewa, kNewA, kNew, kNews, kNewX, kCast, kInst, calS, kStat, calV, nulT, kVirt, kRetI, kRetL, kRetF, kRetD, kRetA, kRet0, kThr, kSpc, calI, kStt, kNat, kCpy, tI_, tL_, tF_, tD_, tA_n, tA_r, tC1_i, tC1_f, tC1_r, tC2_l, tC2_d, tA_rf, lg_nil, lg_cons, lin_nil, lin_cons, lf1_nil, lf1_cons, lf2_nil, lf2_cons, ls1, ls2, lent_nil, lent_cons, cat_int, cat_long, cat_float, cat_double, cat_null, cat_ref, cat_rf, rf_some, rf_none, f4_0, f4_1, f4_2, f4_3, popN_0, popN_s, wds_nil, wds_cons, asc_nil, asc_cons, pI_c, pII_c, pL_c, pLL_c, pLI_c, pF_c, pFF_c, pD_c, pDD_c, mapc_some, mapc_none, mapc_ite, sdup_c, spop_c, sdupx1_c, sdup2_c, br1_eq, br1_ne, br1_lt, br1_ge, br1_gt, br1_le, br2_eq, br2_ne, br2_lt, br2_ge, br2_gt, br2_le, tgt, tgOk, hfd, gI_sI, gI_sL, gI_sF, gI_sD, gI_sR, gL_sI, gL_sL, gL_sF, gL_sD, gL_sR, gF_sI, gF_sL, gF_sF, gF_sD, gF_sR, gD_sI, gD_sL, gD_sF, gD_sD, gD_sR, gR_sI, gR_sL, gR_sF, gR_sD, gR_sR, gI_alo, gL_alo, gF_alo, gD_alo, gR_alo, kd_sI, kd_sL, kd_sF, kd_sD, kd_sR, nx_sI, nx_sL, nx_sF, nx_sD, nx_sR, nc_sI, nc_sL, nc_sF, nc_sD, nc_sR, ns_sI, ns_sL, ns_sF, ns_sD, ns_sR, kd_alo, nx_alo, nc_alo, ns_alo, narO_0, narO_1, narO_2, narO_3, narO_4, vF_0, vF_1, vF_2, vF_3, vF_4, vF_5, vF_6, vF_7, vF_8, stF_int, stF_long, stF_float, stF_double, stF_null, stF_ref, stF_rf, Nat.reduceAdd, Nat.reduceSub, Nat.reduceMul, Nat.reduceEqDiff, Nat.reduceBEq, Nat.reduceLeDiff, Nat.reduceBneDiff, Int.reduceAdd, Int.reduceSub, Int.reduceNeg, Int.reduceToNat, Int.reduceLE, Int.reduceLT, Int.cast_ofNat_Int, reduceIte, ite_true, ite_false, and_true, true_and, and_false, false_and, and_self, or_true, true_or, or_false, false_or, decide_true, decide_false, decide_eq_true_eq, eq_self, not_true_eq_false, not_false_eq_true, reduceCtorEq, Bool.false_eq_true, Nat.reduceLT, Int.ofNat_zero, Int.natCast_zero, hF_41_139, hF_41_143, hF_41_144, bp_97, ic_1, ct_204, ct_300, ct_200, ct_201, ct_301, ct_202, ct_203, ct_205, ct_206, ct_207, ct_210, ct_211, ct_212, ct_213, ct_214, ct_215, ct_216, ct_217, ct_218, ia_200, ia_201, ia_202, ia_203, ia_204, ia_205, ia_206, ia_207, ia_210, ia_211, ia_212, ia_213, ia_214, ia_215, ia_216, ia_217, ia_218, ia_300, ia_301, ne_eq, okd, okf, dc0, dc1, Fin.isValue, Fin.reduceEq, lit_eq, lit_m1, lit_m2, nb_0, nb_1, Nat.reduceMod, Int32.reduceLT, Int32.reduceAdd, Int32.reduceSub, Int32.reduceMul, kArT, fk_170 H, fr_170_139 H, fk_171 H, fr_170_143 H, fk_173 H, fr_170_144 H, fk_174 H, e1, e2, hf, lc_0, Nat.add_zero, i3_succ]
