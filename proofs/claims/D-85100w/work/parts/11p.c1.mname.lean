/-! PROG p2: names as numbers; the model finds them -/
set_option maxRecDepth 100000
/-! a name as a number -/
def dvC (c : Int32) : Nat := if isD c = true then c.toInt.toNat - 47 else c.toInt.toNat - 86
def okC (c : Int32) : Prop := isL c = true ∨ isD c = true
theorem dvC_b {c : Int32} (h : okC c) : 1 ≤ dvC c ∧ dvC c ≤ 36 ∧ (if isD c = true then c - 48 + 1 else c - 97 + 11) = i3 (dvC c) := by
  unfold dvC
  by_cases hd : isD c = true
  · have := (isD_iff c).mp hd
    rw [if_pos hd, if_pos hd]
    refine ⟨by omega, by omega, ?_⟩
    have e : c = i3 c.toInt.toNat := by
      apply Int32.toInt_inj.mp
      rw [i3_toInt (by omega)]
      omega
    have e48 : (48 : Int32) = i3 48 := rfl
    have e1 : (1 : Int32) = i3 1 := rfl
    rw [e, e48, e1, i3_sub (by omega) (by omega), i3_add, i3_toInt (by omega)]
    congr 1
    omega
  · have := (isL_iff c).mp (h.resolve_right hd)
    rw [if_neg hd, if_neg hd]
    refine ⟨by omega, by omega, ?_⟩
    have e : c = i3 c.toInt.toNat := by
      apply Int32.toInt_inj.mp
      rw [i3_toInt (by omega)]
      omega
    have e97 : (97 : Int32) = i3 97 := rfl
    have e11 : (11 : Int32) = i3 11 := rfl
    rw [e, e97, e11, i3_sub (by omega) (by omega), i3_add, i3_toInt (by omega)]
    congr 1
    omega
theorem dvC_inj {c d : Int32} (hc : okC c) (hd : okC d) (h : dvC c = dvC d) : c = d := by
  have q1 := dvC_b hc
  have q2 := dvC_b hd
  unfold dvC at h q1 q2
  apply Int32.toInt_inj.mp
  by_cases a : isD c = true
  · have a' := (isD_iff c).mp a
    rw [if_pos a] at h
    by_cases b : isD d = true
    · have b' := (isD_iff d).mp b
      rw [if_pos b] at h
      omega
    · have b' := (isL_iff d).mp (hd.resolve_right b)
      rw [if_neg b] at h
      omega
  · have a' := (isL_iff c).mp (hc.resolve_right a)
    rw [if_neg a] at h
    by_cases b : isD d = true
    · have b' := (isD_iff d).mp b
      rw [if_pos b] at h
      omega
    · have b' := (isL_iff d).mp (hd.resolve_right b)
      rw [if_neg b] at h
      omega
/-- what the model reckons -/
def kyS : Int64 → List Int32 → Int64
  | v, [] => v
  | v, c :: l => kyS (37 * v + (if isD c = true then c - 48 + 1 else c - 97 + 11).toInt64) l
def kyN : Nat → List Int32 → Nat
  | v, [] => v
  | v, c :: l => kyN (37 * v + dvC c) l
def i6 (n : Nat) : Int64 := Int64.ofNat n
theorem i6_toInt {n : Nat} (h : n < 9223372036854775808) : (i6 n).toInt = n := by
  unfold i6
  rw [Int64.toInt_ofNat']
  show Int.bmod n 18446744073709551616 = n
  exact Int.bmod_eq_of_le (by omega) (by omega)
theorem i6_step {v x : Nat} (hx : x < 2147483648) (h : 37 * v + x < 9223372036854775808) : 37 * i6 v + (i3 x).toInt64 = i6 (37 * v + x) := by
  apply Int64.toInt_inj.mp
  have e : (37 : Int64).toInt = 37 := rfl
  rw [Int64.toInt_add, Int64.toInt_mul, e, i6_toInt (by omega), i6_toInt h, Int32.toInt_toInt64, i3_toInt hx]
  rw [Int.bmod_eq_of_le (n := 37 * (v : Int)) (by omega) (by omega), Int.bmod_eq_of_le (by omega) (by omega)]
  omega
theorem kyN_lt : ∀ (l : List Int32) (v k : Nat), (∀ c ∈ l, okC c) → v < 37 ^ k → kyN v l < 37 ^ (k + l.length) := by
  intro l
  induction l with
  | nil => intro v k _ hv; exact hv
  | cons c l ih =>
    intro v k hc hv
    have h1 := dvC_b (hc c (List.mem_cons_self ..))
    have h2 := ih (37 * v + dvC c) (k + 1) (fun d hd => hc d (List.mem_cons_of_mem _ hd)) (by rw [Nat.pow_succ]; omega)
    show kyN (37 * v + dvC c) l < _
    rw [List.length_cons, show k + (l.length + 1) = k + 1 + l.length by omega]
    exact h2
theorem kyS_N : ∀ (l : List Int32) (v k : Nat), (∀ c ∈ l, okC c) → v < 37 ^ k → k + l.length ≤ 12 → kyS (i6 v) l = i6 (kyN v l) := by
  intro l
  induction l with
  | nil => intro v k _ _ _; rfl
  | cons c l ih =>
    intro v k hc hv hk
    have h1 := dvC_b (hc c (List.mem_cons_self ..))
    rw [List.length_cons] at hk
    have h3 : 37 * v + dvC c < 37 ^ (k + 1) := by rw [Nat.pow_succ]; omega
    have h4 : (37 : Nat) ^ (k + 1) ≤ 37 ^ 12 := Nat.pow_le_pow_right (by decide) (by omega)
    have h5 : (37 : Nat) ^ 12 < 9223372036854775808 := by decide
    show kyS (37 * i6 v + (if isD c = true then c - 48 + 1 else c - 97 + 11).toInt64) l = _
    rw [h1.2.2, i6_step (by omega) (by omega)]
    exact ih _ (k + 1) (fun d hd => hc d (List.mem_cons_of_mem _ hd)) h3 (by omega)
theorem kyN_app : ∀ (l : List Int32) (v : Nat) (c : Int32), kyN v (l ++ [c]) = 37 * kyN v l + dvC c := by
  intro l
  induction l with
  | nil => intro v c; rfl
  | cons d l ih => intro v c; exact ih _ c
theorem kyN_inj : ∀ (r s : List Int32), (∀ c ∈ r, okC c) → (∀ c ∈ s, okC c) → kyN 0 r.reverse = kyN 0 s.reverse → r = s := by
  intro r
  induction r with
  | nil =>
    intro s _ hs h
    cases s with
    | nil => rfl
    | cons d s =>
      have := dvC_b (hs d (List.mem_cons_self ..))
      rw [List.reverse_cons, kyN_app, List.reverse_nil] at h
      have e : kyN 0 [] = 0 := rfl
      omega
  | cons c r ih =>
    intro s hr hs h
    have h1 := dvC_b (hr c (List.mem_cons_self ..))
    cases s with
    | nil =>
      rw [List.reverse_cons, kyN_app, List.reverse_nil] at h
      have e : kyN 0 [] = 0 := rfl
      omega
    | cons d s =>
      have h2 := dvC_b (hs d (List.mem_cons_self ..))
      rw [List.reverse_cons, kyN_app, List.reverse_cons, kyN_app] at h
      have e1 := dvC_inj (hr c (List.mem_cons_self ..)) (hs d (List.mem_cons_self ..)) (by omega)
      have e2 := ih s (fun c h => hr c (List.mem_cons_of_mem _ h)) (fun c h => hs c (List.mem_cons_of_mem _ h)) (by omega)
      rw [e1, e2]
def vld (b : List Int32) : Prop := b.length ≤ 12 ∧ ∀ c ∈ b, okC c
theorem kyS_inj {a b : List Int32} (ha : vld a) (hb : vld b) : (kyS 0 a = kyS 0 b) ↔ a = b := by
  constructor
  · intro h
    have e0 : (0 : Int64) = i6 0 := rfl
    rw [e0, kyS_N a 0 0 ha.2 (by decide) (by have := ha.1; omega), kyS_N b 0 0 hb.2 (by decide) (by have := hb.1; omega)] at h
    have l1 := kyN_lt a 0 0 ha.2 (by decide)
    have l2 := kyN_lt b 0 0 hb.2 (by decide)
    have p1 : (37 : Nat) ^ (0 + a.length) ≤ 37 ^ 12 := Nat.pow_le_pow_right (by decide) (by have := ha.1; omega)
    have p2 : (37 : Nat) ^ (0 + b.length) ≤ 37 ^ 12 := Nat.pow_le_pow_right (by decide) (by have := hb.1; omega)
    have h5 : (37 : Nat) ^ 12 < 9223372036854775808 := by decide
    have h6 := congrArg Int64.toInt h
    rw [i6_toInt (by omega), i6_toInt (by omega)] at h6
    have h7 := kyN_inj a.reverse b.reverse (fun c h => ha.2 c (List.mem_reverse.mp h)) (fun c h => hb.2 c (List.mem_reverse.mp h)) (by rw [List.reverse_reverse, List.reverse_reverse]; omega)
    have h8 := congrArg List.reverse h7
    rw [List.reverse_reverse, List.reverse_reverse] at h8
    exact h8
  · rintro rfl; rfl
theorem byF_len (t : Nat → Int32) : ∀ f p, (byF t p f).length = f := by
  intro f
  induction f with
  | zero => intro p; rfl
  | succ f ih => intro p; show (byF t (p + 1) f).length + 1 = f + 1; rw [ih]
theorem byF_mem (t : Nat → Int32) : ∀ f p c, c ∈ byF t p f → ∃ k, k < f ∧ c = t (p + k) := by
  intro f
  induction f with
  | zero => intro p c h; cases h
  | succ f ih =>
    intro p c h
    rcases List.mem_cons.mp h with h | h
    · exact ⟨0, by omega, h⟩
    · obtain ⟨k, h1, h2⟩ := ih (p + 1) c h
      exact ⟨k + 1, by omega, by rw [h2]; congr 1; omega⟩
theorem lg_cmp0 (x y : Int64) : (lg_cmp x y = 0) ↔ x = y := by
  unfold lg_cmp
  by_cases h1 : x > y
  · rw [if_pos h1]
    refine ⟨fun h => absurd h (by decide), fun h => ?_⟩
    rw [h] at h1
    have := Int64.lt_iff_toInt_lt.mp h1
    omega
  · rw [if_neg h1]
    by_cases h2 : x = y
    · rw [if_pos h2]; exact ⟨fun _ => h2, fun _ => rfl⟩
    · rw [if_neg h2]; exact ⟨fun h => absurd h (by decide), fun h => absurd h h2⟩
/-! the model's find() -/
theorem key_L {h : Hp} (H : FX h) {e i : Nat} (w : Nat) (hi : i < 6002) (he : gI h 174 i = i3 e) (he6 : e ≤ 6000) : ∀ f p v, p + f = e → ev (w + 20) M_X13_key 10 [(0, .ref 170), (1, .int (i3 i)), (2, .long v), (4, .int (i3 p))] [] h = some (.inl (some (.long (kyS v (byF (gI h 171) p f)))), h) := by
  have e1 := inB_i3 (i := i) (n := 6002) hi (by decide)
  have e2 := i3_nat (n := i) (by omega)
  intro f
  induction f with
  | zero =>
    intro p v hp
    have hpe : p = e := hp
    subst hpe
    have e0 : ¬ (i3 p < i3 p) := by rw [i3_lt (by omega) (by omega)]; omega
    rw [ev_at (M := M_X13_key) dX13_key_10]
    simp only [ev_at (M := M_X13_key) dX13_key_0, ev_at (M := M_X13_key) dX13_key_1, ev_at (M := M_X13_key) dX13_key_2, ev_at (M := M_X13_key) dX13_key_3, ev_at (M := M_X13_key) dX13_key_6, ev_at (M := M_X13_key) dX13_key_7, ev_at (M := M_X13_key) dX13_key_8, ev_at (M := M_X13_key) dX13_key_12, ev_at (M := M_X13_key) dX13_key_13, ev_at (M := M_X13_key) dX13_key_16, ev_at (M := M_X13_key) dX13_key_17, ev_at (M := M_X13_key) dX13_key_18, ev_at (M := M_X13_key) dX13_key_21, ev_at (M := M_X13_key) dX13_key_24, ev_at (M := M_X13_key) dX13_key_25, ev_at (M := M_X13_key) dX13_key_26, ev_at (M := M_X13_key) dX13_key_27, ev_at (M := M_X13_key) dX13_key_30, ev_at (M := M_X13_key) dX13_key_32, ev_at (M := M_X13_key) dX13_key_33, ev_at (M := M_X13_key) dX13_key_36, ev_at (M := M_X13_key) dX13_key_39, ev_at (M := M_X13_key) dX13_key_40, ev_at (M := M_X13_key) dX13_key_43, ev_at (M := M_X13_key) dX13_key_45, ev_at (M := M_X13_key) dX13_key_46, ev_at (M := M_X13_key) dX13_key_48, ev_at (M := M_X13_key) dX13_key_49, ev_at (M := M_X13_key) dX13_key_50, ev_at (M := M_X13_key) dX13_key_51, ev_at (M := M_X13_key) dX13_key_54, ev_at (M := M_X13_key) dX13_key_55, ev_at (M := M_X13_key) dX13_key_58, ev_at (M := M_X13_key) dX13_key_60, ev_at (M := M_X13_key) dX13_key_61, ev_at (M := M_X13_key) dX13_key_63, ev_at (M := M_X13_key) dX13_key_64, ev_at (M := M_X13_key) dX13_key_66, ev_at (M := M_X13_key) dX13_key_67, ev_at (M := M_X13_key) dX13_key_68, ev_at (M := M_X13_key) dX13_key_69, ev_at (M := M_X13_key) dX13_key_70, ev_at (M := M_X13_key) dX13_key_73, ev_at (M := M_X13_key) dX13_key_76, ev_at (M := M_X13_key) dX13_key_77, x_aload_n, x_baload, x_bipush, x_getfield, x_goto, x_i2l, x_iadd, x_iaload, x_iconst, x_ifCond, x_if_icmp, x_iinc, x_iload, x_iload_n, x_invokestatic, x_istore, x_isub, x_ladd, x_lconst, x_ldc2_w, x_lload_n, x_lmul, x_lreturn, x_lstore_n, cT_43_531, fT_43_67, fT_43_74, fT_43_78, mS_43_250, zT_43_250, o_X13_key, r_X13_key, l_X13_key, h_X13_key, cont_go, cont_rt, cont_th, cont_cal, cont_none, cont_ite, aftE_v, aftE_0, aftE_x, aftE_none, aftE_ite, hdk_h, hdk_0, kLd, kS1, kS2, kInc, goB, kIf, kIf2, kNul, kTab, ldK, ariK, kGet, kPut, kPuts, goO, kALd, kPutI, kPutL, kPutF, kPutD, kPutA, wI, wB, wC, wS, kLen, kNewa, kNewA, kNew, kNews, kNewX, kCast, kInst, calS, kStat, calV, nulT, kVirt, kRetI, kRetL, kRetF, kRetD, kRetA, kRet0, kThr, kSpc, calI, kStt, kNat, kCpy, tI_, tL_, tF_, tD_, tA_n, tA_r, tC1_i, tC1_f, tC1_r, tC2_l, tC2_d, tA_rf, lg_nil, lg_cons, lin_nil, lin_cons, lf1_nil, lf1_cons, lf2_nil, lf2_cons, ls1, ls2, lent_nil, lent_cons, cat_int, cat_long, cat_float, cat_double, cat_null, cat_ref, cat_rf, rf_some, rf_none, f4_0, f4_1, f4_2, f4_3, popN_0, popN_s, wds_nil, wds_cons, asc_nil, asc_cons, pI_c, pII_c, pL_c, pLL_c, pLI_c, pF_c, pFF_c, pD_c, pDD_c, mapc_some, mapc_none, mapc_ite, sdup_c, spop_c, sdupx1_c, sdup2_c, br1_eq, br1_ne, br1_lt, br1_ge, br1_gt, br1_le, br2_eq, br2_ne, br2_lt, br2_ge, br2_gt, br2_le, tgt, tgOk, hfd, gI_sI, gI_sL, gI_sF, gI_sD, gI_sR, gL_sI, gL_sL, gL_sF, gL_sD, gL_sR, gF_sI, gF_sL, gF_sF, gF_sD, gF_sR, gD_sI, gD_sL, gD_sF, gD_sD, gD_sR, gR_sI, gR_sL, gR_sF, gR_sD, gR_sR, gI_alo, gL_alo, gF_alo, gD_alo, gR_alo, kd_sI, kd_sL, kd_sF, kd_sD, kd_sR, nx_sI, nx_sL, nx_sF, nx_sD, nx_sR, nc_sI, nc_sL, nc_sF, nc_sD, nc_sR, ns_sI, ns_sL, ns_sF, ns_sD, ns_sR, kd_alo, nx_alo, nc_alo, ns_alo, narO_0, narO_1, narO_2, narO_3, narO_4, vF_0, vF_1, vF_2, vF_3, vF_4, vF_5, vF_6, vF_7, vF_8, stF_int, stF_long, stF_float, stF_double, stF_null, stF_ref, stF_rf, Nat.reduceAdd, Nat.reduceSub, Nat.reduceMul, Nat.reduceEqDiff, Nat.reduceBEq, Nat.reduceLeDiff, Nat.reduceBneDiff, Int.reduceAdd, Int.reduceSub, Int.reduceNeg, Int.reduceToNat, Int.reduceLE, Int.reduceLT, Int.cast_ofNat_Int, reduceIte, ite_true, ite_false, and_true, true_and, and_false, false_and, and_self, or_true, true_or, or_false, false_or, decide_true, decide_false, decide_eq_true_eq, eq_self, not_true_eq_false, not_false_eq_true, reduceCtorEq, Bool.false_eq_true, Nat.reduceLT, Int.ofNat_zero, Int.natCast_zero, hF_41_139, hF_41_143, hF_41_144, bp_11, bp_48, bp_97, ic_1, ct_204, ct_300, ct_200, ct_201, ct_301, ct_202, ct_203, ct_205, ct_206, ct_207, ct_210, ct_211, ct_212, ct_213, ct_214, ct_215, ct_216, ct_217, ct_218, ia_200, ia_201, ia_202, ia_203, ia_204, ia_205, ia_206, ia_207, ia_210, ia_211, ia_212, ia_213, ia_214, ia_215, ia_216, ia_217, ia_218, ia_300, ia_301, ne_eq, okd, okf, dc0, dc1, Fin.isValue, Fin.reduceEq, lit_eq, lit_m1, lit_m2, nb_0, nb_1, Nat.reduceMod, Int32.reduceLT, Int32.reduceAdd, Int32.reduceSub, Int32.reduceMul, kArT, fk_170 H, fr_170_139 H, fk_171 H, fr_170_143 H, fk_173 H, fr_170_144 H, fk_174 H, e1, e2, he, e0, byF, kyS]
  | succ f ih =>
    intro p v hp
    have e0 : i3 p < i3 e := by rw [i3_lt (by omega) (by omega)]; omega
    have e3 := inB_i3 (i := p) (n := 6000) (by omega) (by decide)
    have e4 := i3_nat (n := p) (by omega)
    have eN : kyS v (byF (gI h 171) p (f + 1)) = kyS (37 * v + (if isD (gI h 171 p) = true then gI h 171 p - 48 + 1 else gI h 171 p - 97 + 11).toInt64) (byF (gI h 171) (p + 1) f) := rfl
    rw [eN, ← ih (p + 1) _ (by omega), ev_at (M := M_X13_key) dX13_key_10]
    by_cases hd : isD (gI h 171 p) = true
    · rw [if_pos hd]
      simp only [ev_at (M := M_X13_key) dX13_key_0, ev_at (M := M_X13_key) dX13_key_1, ev_at (M := M_X13_key) dX13_key_2, ev_at (M := M_X13_key) dX13_key_3, ev_at (M := M_X13_key) dX13_key_6, ev_at (M := M_X13_key) dX13_key_7, ev_at (M := M_X13_key) dX13_key_8, ev_at (M := M_X13_key) dX13_key_12, ev_at (M := M_X13_key) dX13_key_13, ev_at (M := M_X13_key) dX13_key_16, ev_at (M := M_X13_key) dX13_key_17, ev_at (M := M_X13_key) dX13_key_18, ev_at (M := M_X13_key) dX13_key_21, ev_at (M := M_X13_key) dX13_key_24, ev_at (M := M_X13_key) dX13_key_25, ev_at (M := M_X13_key) dX13_key_26, ev_at (M := M_X13_key) dX13_key_27, ev_at (M := M_X13_key) dX13_key_30, ev_at (M := M_X13_key) dX13_key_32, ev_at (M := M_X13_key) dX13_key_33, ev_at (M := M_X13_key) dX13_key_36, ev_at (M := M_X13_key) dX13_key_39, ev_at (M := M_X13_key) dX13_key_40, ev_at (M := M_X13_key) dX13_key_43, ev_at (M := M_X13_key) dX13_key_45, ev_at (M := M_X13_key) dX13_key_46, ev_at (M := M_X13_key) dX13_key_48, ev_at (M := M_X13_key) dX13_key_49, ev_at (M := M_X13_key) dX13_key_50, ev_at (M := M_X13_key) dX13_key_51, ev_at (M := M_X13_key) dX13_key_54, ev_at (M := M_X13_key) dX13_key_55, ev_at (M := M_X13_key) dX13_key_58, ev_at (M := M_X13_key) dX13_key_60, ev_at (M := M_X13_key) dX13_key_61, ev_at (M := M_X13_key) dX13_key_63, ev_at (M := M_X13_key) dX13_key_64, ev_at (M := M_X13_key) dX13_key_66, ev_at (M := M_X13_key) dX13_key_67, ev_at (M := M_X13_key) dX13_key_68, ev_at (M := M_X13_key) dX13_key_69, ev_at (M := M_X13_key) dX13_key_70, ev_at (M := M_X13_key) dX13_key_73, ev_at (M := M_X13_key) dX13_key_76, ev_at (M := M_X13_key) dX13_key_77, x_aload_n, x_baload, x_bipush, x_getfield, x_goto, x_i2l, x_iadd, x_iaload, x_iconst, x_ifCond, x_if_icmp, x_iinc, x_iload, x_iload_n, x_invokestatic, x_istore, x_isub, x_ladd, x_lconst, x_ldc2_w, x_lload_n, x_lmul, x_lreturn, x_lstore_n, cT_43_531, fT_43_67, fT_43_74, fT_43_78, mS_43_250, zT_43_250, o_X13_key, r_X13_key, l_X13_key, h_X13_key, cont_go, cont_rt, cont_th, cont_cal, cont_none, cont_ite, aftE_v, aftE_0, aftE_x, aftE_none, aftE_ite, hdk_h, hdk_0, kLd, kS1, kS2, kInc, goB, kIf, kIf2, kNul, kTab, ldK, ariK, kGet, kPut, kPuts, goO, kALd, kPutI, kPutL, kPutF, kPutD, kPutA, wI, wB, wC, wS, kLen, kNewa, kNewA, kNew, kNews, kNewX, kCast, kInst, calS, kStat, calV, nulT, kVirt, kRetI, kRetL, kRetF, kRetD, kRetA, kRet0, kThr, kSpc, calI, kStt, kNat, kCpy, tI_, tL_, tF_, tD_, tA_n, tA_r, tC1_i, tC1_f, tC1_r, tC2_l, tC2_d, tA_rf, lg_nil, lg_cons, lin_nil, lin_cons, lf1_nil, lf1_cons, lf2_nil, lf2_cons, ls1, ls2, lent_nil, lent_cons, cat_int, cat_long, cat_float, cat_double, cat_null, cat_ref, cat_rf, rf_some, rf_none, f4_0, f4_1, f4_2, f4_3, popN_0, popN_s, wds_nil, wds_cons, asc_nil, asc_cons, pI_c, pII_c, pL_c, pLL_c, pLI_c, pF_c, pFF_c, pD_c, pDD_c, mapc_some, mapc_none, mapc_ite, sdup_c, spop_c, sdupx1_c, sdup2_c, br1_eq, br1_ne, br1_lt, br1_ge, br1_gt, br1_le, br2_eq, br2_ne, br2_lt, br2_ge, br2_gt, br2_le, tgt, tgOk, hfd, gI_sI, gI_sL, gI_sF, gI_sD, gI_sR, gL_sI, gL_sL, gL_sF, gL_sD, gL_sR, gF_sI, gF_sL, gF_sF, gF_sD, gF_sR, gD_sI, gD_sL, gD_sF, gD_sD, gD_sR, gR_sI, gR_sL, gR_sF, gR_sD, gR_sR, gI_alo, gL_alo, gF_alo, gD_alo, gR_alo, kd_sI, kd_sL, kd_sF, kd_sD, kd_sR, nx_sI, nx_sL, nx_sF, nx_sD, nx_sR, nc_sI, nc_sL, nc_sF, nc_sD, nc_sR, ns_sI, ns_sL, ns_sF, ns_sD, ns_sR, kd_alo, nx_alo, nc_alo, ns_alo, narO_0, narO_1, narO_2, narO_3, narO_4, vF_0, vF_1, vF_2, vF_3, vF_4, vF_5, vF_6, vF_7, vF_8, stF_int, stF_long, stF_float, stF_double, stF_null, stF_ref, stF_rf, Nat.reduceAdd, Nat.reduceSub, Nat.reduceMul, Nat.reduceEqDiff, Nat.reduceBEq, Nat.reduceLeDiff, Nat.reduceBneDiff, Int.reduceAdd, Int.reduceSub, Int.reduceNeg, Int.reduceToNat, Int.reduceLE, Int.reduceLT, Int.cast_ofNat_Int, reduceIte, ite_true, ite_false, and_true, true_and, and_false, false_and, and_self, or_true, true_or, or_false, false_or, decide_true, decide_false, decide_eq_true_eq, eq_self, not_true_eq_false, not_false_eq_true, reduceCtorEq, Bool.false_eq_true, Nat.reduceLT, Int.ofNat_zero, Int.natCast_zero, hF_41_139, hF_41_143, hF_41_144, bp_11, bp_48, bp_97, ic_1, ct_204, ct_300, ct_200, ct_201, ct_301, ct_202, ct_203, ct_205, ct_206, ct_207, ct_210, ct_211, ct_212, ct_213, ct_214, ct_215, ct_216, ct_217, ct_218, ia_200, ia_201, ia_202, ia_203, ia_204, ia_205, ia_206, ia_207, ia_210, ia_211, ia_212, ia_213, ia_214, ia_215, ia_216, ia_217, ia_218, ia_300, ia_301, ne_eq, okd, okf, dc0, dc1, Fin.isValue, Fin.reduceEq, lit_eq, lit_m1, lit_m2, nb_0, nb_1, Nat.reduceMod, Int32.reduceLT, Int32.reduceAdd, Int32.reduceSub, Int32.reduceMul, kArT, fk_170 H, fr_170_139 H, fk_171 H, fr_170_143 H, fk_173 H, fr_170_144 H, fk_174 H, e1, e2, he, e0, e3, e4, w_mDig, hd, b2i_t, i3_succ]
    · rw [if_neg hd]
      simp only [ev_at (M := M_X13_key) dX13_key_0, ev_at (M := M_X13_key) dX13_key_1, ev_at (M := M_X13_key) dX13_key_2, ev_at (M := M_X13_key) dX13_key_3, ev_at (M := M_X13_key) dX13_key_6, ev_at (M := M_X13_key) dX13_key_7, ev_at (M := M_X13_key) dX13_key_8, ev_at (M := M_X13_key) dX13_key_12, ev_at (M := M_X13_key) dX13_key_13, ev_at (M := M_X13_key) dX13_key_16, ev_at (M := M_X13_key) dX13_key_17, ev_at (M := M_X13_key) dX13_key_18, ev_at (M := M_X13_key) dX13_key_21, ev_at (M := M_X13_key) dX13_key_24, ev_at (M := M_X13_key) dX13_key_25, ev_at (M := M_X13_key) dX13_key_26, ev_at (M := M_X13_key) dX13_key_27, ev_at (M := M_X13_key) dX13_key_30, ev_at (M := M_X13_key) dX13_key_32, ev_at (M := M_X13_key) dX13_key_33, ev_at (M := M_X13_key) dX13_key_36, ev_at (M := M_X13_key) dX13_key_39, ev_at (M := M_X13_key) dX13_key_40, ev_at (M := M_X13_key) dX13_key_43, ev_at (M := M_X13_key) dX13_key_45, ev_at (M := M_X13_key) dX13_key_46, ev_at (M := M_X13_key) dX13_key_48, ev_at (M := M_X13_key) dX13_key_49, ev_at (M := M_X13_key) dX13_key_50, ev_at (M := M_X13_key) dX13_key_51, ev_at (M := M_X13_key) dX13_key_54, ev_at (M := M_X13_key) dX13_key_55, ev_at (M := M_X13_key) dX13_key_58, ev_at (M := M_X13_key) dX13_key_60, ev_at (M := M_X13_key) dX13_key_61, ev_at (M := M_X13_key) dX13_key_63, ev_at (M := M_X13_key) dX13_key_64, ev_at (M := M_X13_key) dX13_key_66, ev_at (M := M_X13_key) dX13_key_67, ev_at (M := M_X13_key) dX13_key_68, ev_at (M := M_X13_key) dX13_key_69, ev_at (M := M_X13_key) dX13_key_70, ev_at (M := M_X13_key) dX13_key_73, ev_at (M := M_X13_key) dX13_key_76, ev_at (M := M_X13_key) dX13_key_77, x_aload_n, x_baload, x_bipush, x_getfield, x_goto, x_i2l, x_iadd, x_iaload, x_iconst, x_ifCond, x_if_icmp, x_iinc, x_iload, x_iload_n, x_invokestatic, x_istore, x_isub, x_ladd, x_lconst, x_ldc2_w, x_lload_n, x_lmul, x_lreturn, x_lstore_n, cT_43_531, fT_43_67, fT_43_74, fT_43_78, mS_43_250, zT_43_250, o_X13_key, r_X13_key, l_X13_key, h_X13_key, cont_go, cont_rt, cont_th, cont_cal, cont_none, cont_ite, aftE_v, aftE_0, aftE_x, aftE_none, aftE_ite, hdk_h, hdk_0, kLd, kS1, kS2, kInc, goB, kIf, kIf2, kNul, kTab, ldK, ariK, kGet, kPut, kPuts, goO, kALd, kPutI, kPutL, kPutF, kPutD, kPutA, wI, wB, wC, wS, kLen, kNewa, kNewA, kNew, kNews, kNewX, kCast, kInst, calS, kStat, calV, nulT, kVirt, kRetI, kRetL, kRetF, kRetD, kRetA, kRet0, kThr, kSpc, calI, kStt, kNat, kCpy, tI_, tL_, tF_, tD_, tA_n, tA_r, tC1_i, tC1_f, tC1_r, tC2_l, tC2_d, tA_rf, lg_nil, lg_cons, lin_nil, lin_cons, lf1_nil, lf1_cons, lf2_nil, lf2_cons, ls1, ls2, lent_nil, lent_cons, cat_int, cat_long, cat_float, cat_double, cat_null, cat_ref, cat_rf, rf_some, rf_none, f4_0, f4_1, f4_2, f4_3, popN_0, popN_s, wds_nil, wds_cons, asc_nil, asc_cons, pI_c, pII_c, pL_c, pLL_c, pLI_c, pF_c, pFF_c, pD_c, pDD_c, mapc_some, mapc_none, mapc_ite, sdup_c, spop_c, sdupx1_c, sdup2_c, br1_eq, br1_ne, br1_lt, br1_ge, br1_gt, br1_le, br2_eq, br2_ne, br2_lt, br2_ge, br2_gt, br2_le, tgt, tgOk, hfd, gI_sI, gI_sL, gI_sF, gI_sD, gI_sR, gL_sI, gL_sL, gL_sF, gL_sD, gL_sR, gF_sI, gF_sL, gF_sF, gF_sD, gF_sR, gD_sI, gD_sL, gD_sF, gD_sD, gD_sR, gR_sI, gR_sL, gR_sF, gR_sD, gR_sR, gI_alo, gL_alo, gF_alo, gD_alo, gR_alo, kd_sI, kd_sL, kd_sF, kd_sD, kd_sR, nx_sI, nx_sL, nx_sF, nx_sD, nx_sR, nc_sI, nc_sL, nc_sF, nc_sD, nc_sR, ns_sI, ns_sL, ns_sF, ns_sD, ns_sR, kd_alo, nx_alo, nc_alo, ns_alo, narO_0, narO_1, narO_2, narO_3, narO_4, vF_0, vF_1, vF_2, vF_3, vF_4, vF_5, vF_6, vF_7, vF_8, stF_int, stF_long, stF_float, stF_double, stF_null, stF_ref, stF_rf, Nat.reduceAdd, Nat.reduceSub, Nat.reduceMul, Nat.reduceEqDiff, Nat.reduceBEq, Nat.reduceLeDiff, Nat.reduceBneDiff, Int.reduceAdd, Int.reduceSub, Int.reduceNeg, Int.reduceToNat, Int.reduceLE, Int.reduceLT, Int.cast_ofNat_Int, reduceIte, ite_true, ite_false, and_true, true_and, and_false, false_and, and_self, or_true, true_or, or_false, false_or, decide_true, decide_false, decide_eq_true_eq, eq_self, not_true_eq_false, not_false_eq_true, reduceCtorEq, Bool.false_eq_true, Nat.reduceLT, Int.ofNat_zero, Int.natCast_zero, hF_41_139, hF_41_143, hF_41_144, bp_11, bp_48, bp_97, ic_1, ct_204, ct_300, ct_200, ct_201, ct_301, ct_202, ct_203, ct_205, ct_206, ct_207, ct_210, ct_211, ct_212, ct_213, ct_214, ct_215, ct_216, ct_217, ct_218, ia_200, ia_201, ia_202, ia_203, ia_204, ia_205, ia_206, ia_207, ia_210, ia_211, ia_212, ia_213, ia_214, ia_215, ia_216, ia_217, ia_218, ia_300, ia_301, ne_eq, okd, okf, dc0, dc1, Fin.isValue, Fin.reduceEq, lit_eq, lit_m1, lit_m2, nb_0, nb_1, Nat.reduceMod, Int32.reduceLT, Int32.reduceAdd, Int32.reduceSub, Int32.reduceMul, kArT, fk_170 H, fr_170_139 H, fk_171 H, fr_170_143 H, fk_173 H, fr_170_144 H, fk_174 H, e1, e2, he, e0, e3, e4, w_mDig, Bool.eq_false_iff.mpr hd, b2i_f, i3_succ]
theorem w_key {h : Hp} (H : FX h) {e i : Nat} (w : Nat) {p : Nat} (hi : i < 6002) (hf : gI h 173 i = i3 p) (he : gI h 174 i = i3 e) (hpe : p ≤ e) (he6 : e ≤ 6000) : evM (w + 44) 460 [.ref 170, .int (i3 i)] h = some (.inl (some (.long (kyS 0 (byF (gI h 171) p (e - p))))), h) := by
  have e1 := inB_i3 (i := i) (n := 6002) hi (by decide)
  have e2 := i3_nat (n := i) (by omega)
  have := key_L H w hi he he6 (e - p) p 0 (by omega)
  rw [← this, evM_to M_X13_key 20 24 _ (by rfl) (by rfl) (by rfl) (Nat.le_of_ble_eq_true rfl) (by rfl)]
  simp only [ev_at (M := M_X13_key) dX13_key_0, ev_at (M := M_X13_key) dX13_key_1, ev_at (M := M_X13_key) dX13_key_2, ev_at (M := M_X13_key) dX13_key_3, ev_at (M := M_X13_key) dX13_key_6, ev_at (M := M_X13_key) dX13_key_7, ev_at (M := M_X13_key) dX13_key_8, ev_at (M := M_X13_key) dX13_key_12, ev_at (M := M_X13_key) dX13_key_13, ev_at (M := M_X13_key) dX13_key_16, ev_at (M := M_X13_key) dX13_key_17, ev_at (M := M_X13_key) dX13_key_18, ev_at (M := M_X13_key) dX13_key_21, ev_at (M := M_X13_key) dX13_key_24, ev_at (M := M_X13_key) dX13_key_25, ev_at (M := M_X13_key) dX13_key_26, ev_at (M := M_X13_key) dX13_key_27, ev_at (M := M_X13_key) dX13_key_30, ev_at (M := M_X13_key) dX13_key_32, ev_at (M := M_X13_key) dX13_key_33, ev_at (M := M_X13_key) dX13_key_36, ev_at (M := M_X13_key) dX13_key_39, ev_at (M := M_X13_key) dX13_key_40, ev_at (M := M_X13_key) dX13_key_43, ev_at (M := M_X13_key) dX13_key_45, ev_at (M := M_X13_key) dX13_key_46, ev_at (M := M_X13_key) dX13_key_48, ev_at (M := M_X13_key) dX13_key_49, ev_at (M := M_X13_key) dX13_key_50, ev_at (M := M_X13_key) dX13_key_51, ev_at (M := M_X13_key) dX13_key_54, ev_at (M := M_X13_key) dX13_key_55, ev_at (M := M_X13_key) dX13_key_58, ev_at (M := M_X13_key) dX13_key_60, ev_at (M := M_X13_key) dX13_key_61, ev_at (M := M_X13_key) dX13_key_63, ev_at (M := M_X13_key) dX13_key_64, ev_at (M := M_X13_key) dX13_key_66, ev_at (M := M_X13_key) dX13_key_67, ev_at (M := M_X13_key) dX13_key_68, ev_at (M := M_X13_key) dX13_key_69, ev_at (M := M_X13_key) dX13_key_70, ev_at (M := M_X13_key) dX13_key_73, ev_at (M := M_X13_key) dX13_key_76, ev_at (M := M_X13_key) dX13_key_77, x_aload_n, x_baload, x_bipush, x_getfield, x_goto, x_i2l, x_iadd, x_iaload, x_iconst, x_ifCond, x_if_icmp, x_iinc, x_iload, x_iload_n, x_invokestatic, x_istore, x_isub, x_ladd, x_lconst, x_ldc2_w, x_lload_n, x_lmul, x_lreturn, x_lstore_n, cT_43_531, fT_43_67, fT_43_74, fT_43_78, mS_43_250, zT_43_250, o_X13_key, r_X13_key, l_X13_key, h_X13_key, cont_go, cont_rt, cont_th, cont_cal, cont_none, cont_ite, aftE_v, aftE_0, aftE_x, aftE_none, aftE_ite, hdk_h, hdk_0, kLd, kS1, kS2, kInc, goB, kIf, kIf2, kNul, kTab, ldK, ariK, kGet, kPut, kPuts, goO, kALd, kPutI, kPutL, kPutF, kPutD, kPutA, wI, wB, wC, wS, kLen, kNewa, kNewA, kNew, kNews, kNewX, kCast, kInst, calS, kStat, calV, nulT, kVirt, kRetI, kRetL, kRetF, kRetD, kRetA, kRet0, kThr, kSpc, calI, kStt, kNat, kCpy, tI_, tL_, tF_, tD_, tA_n, tA_r, tC1_i, tC1_f, tC1_r, tC2_l, tC2_d, tA_rf, lg_nil, lg_cons, lin_nil, lin_cons, lf1_nil, lf1_cons, lf2_nil, lf2_cons, ls1, ls2, lent_nil, lent_cons, cat_int, cat_long, cat_float, cat_double, cat_null, cat_ref, cat_rf, rf_some, rf_none, f4_0, f4_1, f4_2, f4_3, popN_0, popN_s, wds_nil, wds_cons, asc_nil, asc_cons, pI_c, pII_c, pL_c, pLL_c, pLI_c, pF_c, pFF_c, pD_c, pDD_c, mapc_some, mapc_none, mapc_ite, sdup_c, spop_c, sdupx1_c, sdup2_c, br1_eq, br1_ne, br1_lt, br1_ge, br1_gt, br1_le, br2_eq, br2_ne, br2_lt, br2_ge, br2_gt, br2_le, tgt, tgOk, hfd, gI_sI, gI_sL, gI_sF, gI_sD, gI_sR, gL_sI, gL_sL, gL_sF, gL_sD, gL_sR, gF_sI, gF_sL, gF_sF, gF_sD, gF_sR, gD_sI, gD_sL, gD_sF, gD_sD, gD_sR, gR_sI, gR_sL, gR_sF, gR_sD, gR_sR, gI_alo, gL_alo, gF_alo, gD_alo, gR_alo, kd_sI, kd_sL, kd_sF, kd_sD, kd_sR, nx_sI, nx_sL, nx_sF, nx_sD, nx_sR, nc_sI, nc_sL, nc_sF, nc_sD, nc_sR, ns_sI, ns_sL, ns_sF, ns_sD, ns_sR, kd_alo, nx_alo, nc_alo, ns_alo, narO_0, narO_1, narO_2, narO_3, narO_4, vF_0, vF_1, vF_2, vF_3, vF_4, vF_5, vF_6, vF_7, vF_8, stF_int, stF_long, stF_float, stF_double, stF_null, stF_ref, stF_rf, Nat.reduceAdd, Nat.reduceSub, Nat.reduceMul, Nat.reduceEqDiff, Nat.reduceBEq, Nat.reduceLeDiff, Nat.reduceBneDiff, Int.reduceAdd, Int.reduceSub, Int.reduceNeg, Int.reduceToNat, Int.reduceLE, Int.reduceLT, Int.cast_ofNat_Int, reduceIte, ite_true, ite_false, and_true, true_and, and_false, false_and, and_self, or_true, true_or, or_false, false_or, decide_true, decide_false, decide_eq_true_eq, eq_self, not_true_eq_false, not_false_eq_true, reduceCtorEq, Bool.false_eq_true, Nat.reduceLT, Int.ofNat_zero, Int.natCast_zero, hF_41_139, hF_41_143, hF_41_144, bp_11, bp_48, bp_97, ic_1, ct_204, ct_300, ct_200, ct_201, ct_301, ct_202, ct_203, ct_205, ct_206, ct_207, ct_210, ct_211, ct_212, ct_213, ct_214, ct_215, ct_216, ct_217, ct_218, ia_200, ia_201, ia_202, ia_203, ia_204, ia_205, ia_206, ia_207, ia_210, ia_211, ia_212, ia_213, ia_214, ia_215, ia_216, ia_217, ia_218, ia_300, ia_301, ne_eq, okd, okf, dc0, dc1, Fin.isValue, Fin.reduceEq, lit_eq, lit_m1, lit_m2, nb_0, nb_1, Nat.reduceMod, Int32.reduceLT, Int32.reduceAdd, Int32.reduceSub, Int32.reduceMul, kArT, fk_170 H, fr_170_139 H, fk_171 H, fr_170_143 H, fk_173 H, fr_170_144 H, fk_174 H, e1, e2, hf]
  rfl
/-- the model holds the names -/
def MN (h : Hp) (N : List NE) : Prop := gI h 170 152 = i3 N.length ∧ N.length ≤ 200 ∧ ∀ k (x : NE), N[k]? = some x → gL h 175 k = kyS 0 x.1 ∧ gI h 176 k = i3 x.2.1 ∧ gI h 177 k = x.2.2 ∧ vld x.1 ∧ x.2.1 ≤ 2
/-- where a name stands; -1 -/
def fiV (N : List NE) (b : List Int32) : Int32 := match N.findIdx? (fun e => decide (e.1 = b)) with
  | some j => i3 j
  | none => -1
theorem fi_L {h : Hp} (H : FX h) {N : List NE} (M : MN h N) {b : List Int32} (hb : vld b) (w : Nat) (x1 : Int32) : ∀ f k, k + f = N.length → ev w M_X13_find 9 [(0, .ref 170), (1, .int x1), (2, .long (kyS 0 b)), (4, .int (i3 k))] [] h = some (.inl (some (.int (match (N.drop k).findIdx? (fun z => decide (z.1 = b)) with | some j => i3 (k + j) | none => -1))), h) := by
  obtain ⟨m1, m2, m3⟩ := M
  intro f
  induction f with
  | zero =>
    intro k hk
    have e0 : ¬ (i3 k < i3 N.length) := by rw [i3_lt (by omega) (by omega)]; omega
    rw [ev_at (M := M_X13_find) dX13_find_9, List.drop_eq_nil_of_le (by omega)]
    simp only [ev_at (M := M_X13_find) dX13_find_0, ev_at (M := M_X13_find) dX13_find_1, ev_at (M := M_X13_find) dX13_find_2, ev_at (M := M_X13_find) dX13_find_5, ev_at (M := M_X13_find) dX13_find_6, ev_at (M := M_X13_find) dX13_find_7, ev_at (M := M_X13_find) dX13_find_11, ev_at (M := M_X13_find) dX13_find_12, ev_at (M := M_X13_find) dX13_find_15, ev_at (M := M_X13_find) dX13_find_18, ev_at (M := M_X13_find) dX13_find_19, ev_at (M := M_X13_find) dX13_find_22, ev_at (M := M_X13_find) dX13_find_24, ev_at (M := M_X13_find) dX13_find_25, ev_at (M := M_X13_find) dX13_find_26, ev_at (M := M_X13_find) dX13_find_27, ev_at (M := M_X13_find) dX13_find_30, ev_at (M := M_X13_find) dX13_find_32, ev_at (M := M_X13_find) dX13_find_33, ev_at (M := M_X13_find) dX13_find_36, ev_at (M := M_X13_find) dX13_find_39, ev_at (M := M_X13_find) dX13_find_40, x_aload_n, x_getfield, x_goto, x_iconst, x_ifCond, x_if_icmp, x_iinc, x_iload, x_iload_n, x_invokevirtual, x_ireturn, x_istore, x_laload, x_lcmp, x_lload_n, x_lstore_n, fT_43_489, fT_43_81, mV_43_533, o_X13_find, r_X13_find, l_X13_find, h_X13_find, cont_go, cont_rt, cont_th, cont_cal, cont_none, cont_ite, aftE_v, aftE_0, aftE_x, aftE_none, aftE_ite, hdk_h, hdk_0, kLd, kS1, kS2, kInc, goB, kIf, kIf2, kNul, kTab, ldK, ariK, kGet, kPut, kPuts, goO, kALd, kPutI, kPutL, kPutF, kPutD, kPutA, wI, wB, wC, wS, kLen, kNewa, kNewA, kNew, kNews, kNewX, kCast, kInst, calS, kStat, calV, nulT, kVirt, kRetI, kRetL, kRetF, kRetD, kRetA, kRet0, kThr, kSpc, calI, kStt, kNat, kCpy, tI_, tL_, tF_, tD_, tA_n, tA_r, tC1_i, tC1_f, tC1_r, tC2_l, tC2_d, tA_rf, lg_nil, lg_cons, lin_nil, lin_cons, lf1_nil, lf1_cons, lf2_nil, lf2_cons, ls1, ls2, lent_nil, lent_cons, cat_int, cat_long, cat_float, cat_double, cat_null, cat_ref, cat_rf, rf_some, rf_none, f4_0, f4_1, f4_2, f4_3, popN_0, popN_s, wds_nil, wds_cons, asc_nil, asc_cons, pI_c, pII_c, pL_c, pLL_c, pLI_c, pF_c, pFF_c, pD_c, pDD_c, mapc_some, mapc_none, mapc_ite, sdup_c, spop_c, sdupx1_c, sdup2_c, br1_eq, br1_ne, br1_lt, br1_ge, br1_gt, br1_le, br2_eq, br2_ne, br2_lt, br2_ge, br2_gt, br2_le, tgt, tgOk, hfd, gI_sI, gI_sL, gI_sF, gI_sD, gI_sR, gL_sI, gL_sL, gL_sF, gL_sD, gL_sR, gF_sI, gF_sL, gF_sF, gF_sD, gF_sR, gD_sI, gD_sL, gD_sF, gD_sD, gD_sR, gR_sI, gR_sL, gR_sF, gR_sD, gR_sR, gI_alo, gL_alo, gF_alo, gD_alo, gR_alo, kd_sI, kd_sL, kd_sF, kd_sD, kd_sR, nx_sI, nx_sL, nx_sF, nx_sD, nx_sR, nc_sI, nc_sL, nc_sF, nc_sD, nc_sR, ns_sI, ns_sL, ns_sF, ns_sD, ns_sR, kd_alo, nx_alo, nc_alo, ns_alo, narO_0, narO_1, narO_2, narO_3, narO_4, vF_0, vF_1, vF_2, vF_3, vF_4, vF_5, vF_6, vF_7, vF_8, stF_int, stF_long, stF_float, stF_double, stF_null, stF_ref, stF_rf, Nat.reduceAdd, Nat.reduceSub, Nat.reduceMul, Nat.reduceEqDiff, Nat.reduceBEq, Nat.reduceLeDiff, Nat.reduceBneDiff, Int.reduceAdd, Int.reduceSub, Int.reduceNeg, Int.reduceToNat, Int.reduceLE, Int.reduceLT, Int.cast_ofNat_Int, reduceIte, ite_true, ite_false, and_true, true_and, and_false, false_and, and_self, or_true, true_or, or_false, false_or, decide_true, decide_false, decide_eq_true_eq, eq_self, not_true_eq_false, not_false_eq_true, reduceCtorEq, Bool.false_eq_true, Nat.reduceLT, Int.ofNat_zero, Int.natCast_zero, hF_41_149, hF_41_152, ic_0, ic_1, ic_m1, ct_204, ct_300, ct_200, ct_201, ct_301, ct_202, ct_203, ct_205, ct_206, ct_207, ct_210, ct_211, ct_212, ct_213, ct_214, ct_215, ct_216, ct_217, ct_218, ia_200, ia_201, ia_202, ia_203, ia_204, ia_205, ia_206, ia_207, ia_210, ia_211, ia_212, ia_213, ia_214, ia_215, ia_216, ia_217, ia_218, ia_300, ia_301, ne_eq, okd, okf, dc0, dc1, Fin.isValue, Fin.reduceEq, lit_eq, lit_m1, lit_m2, nb_0, nb_1, Nat.reduceMod, Int32.reduceLT, Int32.reduceAdd, Int32.reduceSub, Int32.reduceMul, kArT, fk_170 H, fr_170_149 H, fk_175 H, m1, e0]
    rfl
  | succ f ih =>
    intro k hk
    have e0 : i3 k < i3 N.length := by rw [i3_lt (by omega) (by omega)]; omega
    have e3 := inB_i3 (i := k) (n := 200) (by omega) (by decide)
    have e4 := i3_nat (n := k) (by omega)
    have hlt : k < N.length := by omega
    obtain ⟨g1, g2, g3, g4, g5⟩ := m3 k N[k] (List.getElem?_eq_getElem hlt)
    rw [List.drop_eq_getElem_cons hlt, List.findIdx?_cons, ev_at (M := M_X13_find) dX13_find_9]
    by_cases hq : N[k].1 = b
    · have c0 : lg_cmp (kyS 0 N[k].1) (kyS 0 b) = 0 := (lg_cmp0 _ _).mpr (by rw [hq])
      rw [if_pos (decide_eq_true hq)]
      simp only [ev_at (M := M_X13_find) dX13_find_0, ev_at (M := M_X13_find) dX13_find_1, ev_at (M := M_X13_find) dX13_find_2, ev_at (M := M_X13_find) dX13_find_5, ev_at (M := M_X13_find) dX13_find_6, ev_at (M := M_X13_find) dX13_find_7, ev_at (M := M_X13_find) dX13_find_11, ev_at (M := M_X13_find) dX13_find_12, ev_at (M := M_X13_find) dX13_find_15, ev_at (M := M_X13_find) dX13_find_18, ev_at (M := M_X13_find) dX13_find_19, ev_at (M := M_X13_find) dX13_find_22, ev_at (M := M_X13_find) dX13_find_24, ev_at (M := M_X13_find) dX13_find_25, ev_at (M := M_X13_find) dX13_find_26, ev_at (M := M_X13_find) dX13_find_27, ev_at (M := M_X13_find) dX13_find_30, ev_at (M := M_X13_find) dX13_find_32, ev_at (M := M_X13_find) dX13_find_33, ev_at (M := M_X13_find) dX13_find_36, ev_at (M := M_X13_find) dX13_find_39, ev_at (M := M_X13_find) dX13_find_40, x_aload_n, x_getfield, x_goto, x_iconst, x_ifCond, x_if_icmp, x_iinc, x_iload, x_iload_n, x_invokevirtual, x_ireturn, x_istore, x_laload, x_lcmp, x_lload_n, x_lstore_n, fT_43_489, fT_43_81, mV_43_533, o_X13_find, r_X13_find, l_X13_find, h_X13_find, cont_go, cont_rt, cont_th, cont_cal, cont_none, cont_ite, aftE_v, aftE_0, aftE_x, aftE_none, aftE_ite, hdk_h, hdk_0, kLd, kS1, kS2, kInc, goB, kIf, kIf2, kNul, kTab, ldK, ariK, kGet, kPut, kPuts, goO, kALd, kPutI, kPutL, kPutF, kPutD, kPutA, wI, wB, wC, wS, kLen, kNewa, kNewA, kNew, kNews, kNewX, kCast, kInst, calS, kStat, calV, nulT, kVirt, kRetI, kRetL, kRetF, kRetD, kRetA, kRet0, kThr, kSpc, calI, kStt, kNat, kCpy, tI_, tL_, tF_, tD_, tA_n, tA_r, tC1_i, tC1_f, tC1_r, tC2_l, tC2_d, tA_rf, lg_nil, lg_cons, lin_nil, lin_cons, lf1_nil, lf1_cons, lf2_nil, lf2_cons, ls1, ls2, lent_nil, lent_cons, cat_int, cat_long, cat_float, cat_double, cat_null, cat_ref, cat_rf, rf_some, rf_none, f4_0, f4_1, f4_2, f4_3, popN_0, popN_s, wds_nil, wds_cons, asc_nil, asc_cons, pI_c, pII_c, pL_c, pLL_c, pLI_c, pF_c, pFF_c, pD_c, pDD_c, mapc_some, mapc_none, mapc_ite, sdup_c, spop_c, sdupx1_c, sdup2_c, br1_eq, br1_ne, br1_lt, br1_ge, br1_gt, br1_le, br2_eq, br2_ne, br2_lt, br2_ge, br2_gt, br2_le, tgt, tgOk, hfd, gI_sI, gI_sL, gI_sF, gI_sD, gI_sR, gL_sI, gL_sL, gL_sF, gL_sD, gL_sR, gF_sI, gF_sL, gF_sF, gF_sD, gF_sR, gD_sI, gD_sL, gD_sF, gD_sD, gD_sR, gR_sI, gR_sL, gR_sF, gR_sD, gR_sR, gI_alo, gL_alo, gF_alo, gD_alo, gR_alo, kd_sI, kd_sL, kd_sF, kd_sD, kd_sR, nx_sI, nx_sL, nx_sF, nx_sD, nx_sR, nc_sI, nc_sL, nc_sF, nc_sD, nc_sR, ns_sI, ns_sL, ns_sF, ns_sD, ns_sR, kd_alo, nx_alo, nc_alo, ns_alo, narO_0, narO_1, narO_2, narO_3, narO_4, vF_0, vF_1, vF_2, vF_3, vF_4, vF_5, vF_6, vF_7, vF_8, stF_int, stF_long, stF_float, stF_double, stF_null, stF_ref, stF_rf, Nat.reduceAdd, Nat.reduceSub, Nat.reduceMul, Nat.reduceEqDiff, Nat.reduceBEq, Nat.reduceLeDiff, Nat.reduceBneDiff, Int.reduceAdd, Int.reduceSub, Int.reduceNeg, Int.reduceToNat, Int.reduceLE, Int.reduceLT, Int.cast_ofNat_Int, reduceIte, ite_true, ite_false, and_true, true_and, and_false, false_and, and_self, or_true, true_or, or_false, false_or, decide_true, decide_false, decide_eq_true_eq, eq_self, not_true_eq_false, not_false_eq_true, reduceCtorEq, Bool.false_eq_true, Nat.reduceLT, Int.ofNat_zero, Int.natCast_zero, hF_41_149, hF_41_152, ic_0, ic_1, ic_m1, ct_204, ct_300, ct_200, ct_201, ct_301, ct_202, ct_203, ct_205, ct_206, ct_207, ct_210, ct_211, ct_212, ct_213, ct_214, ct_215, ct_216, ct_217, ct_218, ia_200, ia_201, ia_202, ia_203, ia_204, ia_205, ia_206, ia_207, ia_210, ia_211, ia_212, ia_213, ia_214, ia_215, ia_216, ia_217, ia_218, ia_300, ia_301, ne_eq, okd, okf, dc0, dc1, Fin.isValue, Fin.reduceEq, lit_eq, lit_m1, lit_m2, nb_0, nb_1, Nat.reduceMod, Int32.reduceLT, Int32.reduceAdd, Int32.reduceSub, Int32.reduceMul, kArT, fk_170 H, fr_170_149 H, fk_175 H, m1, e0, e3, e4, g1, c0]
      rfl
    · have c0 : ¬ lg_cmp (kyS 0 N[k].1) (kyS 0 b) = 0 := fun h9 => hq ((kyS_inj g4 hb).mp ((lg_cmp0 _ _).mp h9))
      have ei := ih (k + 1) (by omega)
      have er : (match (Option.map (fun i => i + 1) (List.findIdx? (fun z => decide (z.1 = b)) (List.drop (k + 1) N))) with | some j => i3 (k + j) | none => -1) = (match (N.drop (k + 1)).findIdx? (fun z => decide (z.1 = b)) with | some j => i3 (k + 1 + j) | none => -1) := by
        cases (N.drop (k + 1)).findIdx? (fun z => decide (z.1 = b)) with
        | none => rfl
        | some j => show i3 (k + (j + 1)) = i3 (k + 1 + j); congr 1; omega
      rw [if_neg (by rw [decide_eq_false hq]; decide), er, ← ei]
      simp only [ev_at (M := M_X13_find) dX13_find_0, ev_at (M := M_X13_find) dX13_find_1, ev_at (M := M_X13_find) dX13_find_2, ev_at (M := M_X13_find) dX13_find_5, ev_at (M := M_X13_find) dX13_find_6, ev_at (M := M_X13_find) dX13_find_7, ev_at (M := M_X13_find) dX13_find_11, ev_at (M := M_X13_find) dX13_find_12, ev_at (M := M_X13_find) dX13_find_15, ev_at (M := M_X13_find) dX13_find_18, ev_at (M := M_X13_find) dX13_find_19, ev_at (M := M_X13_find) dX13_find_22, ev_at (M := M_X13_find) dX13_find_24, ev_at (M := M_X13_find) dX13_find_25, ev_at (M := M_X13_find) dX13_find_26, ev_at (M := M_X13_find) dX13_find_27, ev_at (M := M_X13_find) dX13_find_30, ev_at (M := M_X13_find) dX13_find_32, ev_at (M := M_X13_find) dX13_find_33, ev_at (M := M_X13_find) dX13_find_36, ev_at (M := M_X13_find) dX13_find_39, ev_at (M := M_X13_find) dX13_find_40, x_aload_n, x_getfield, x_goto, x_iconst, x_ifCond, x_if_icmp, x_iinc, x_iload, x_iload_n, x_invokevirtual, x_ireturn, x_istore, x_laload, x_lcmp, x_lload_n, x_lstore_n, fT_43_489, fT_43_81, mV_43_533, o_X13_find, r_X13_find, l_X13_find, h_X13_find, cont_go, cont_rt, cont_th, cont_cal, cont_none, cont_ite, aftE_v, aftE_0, aftE_x, aftE_none, aftE_ite, hdk_h, hdk_0, kLd, kS1, kS2, kInc, goB, kIf, kIf2, kNul, kTab, ldK, ariK, kGet, kPut, kPuts, goO, kALd, kPutI, kPutL, kPutF, kPutD, kPutA, wI, wB, wC, wS, kLen, kNewa, kNewA, kNew, kNews, kNewX, kCast, kInst, calS, kStat, calV, nulT, kVirt, kRetI, kRetL, kRetF, kRetD, kRetA, kRet0, kThr, kSpc, calI, kStt, kNat, kCpy, tI_, tL_, tF_, tD_, tA_n, tA_r, tC1_i, tC1_f, tC1_r, tC2_l, tC2_d, tA_rf, lg_nil, lg_cons, lin_nil, lin_cons, lf1_nil, lf1_cons, lf2_nil, lf2_cons, ls1, ls2, lent_nil, lent_cons, cat_int, cat_long, cat_float, cat_double, cat_null, cat_ref, cat_rf, rf_some, rf_none, f4_0, f4_1, f4_2, f4_3, popN_0, popN_s, wds_nil, wds_cons, asc_nil, asc_cons, pI_c, pII_c, pL_c, pLL_c, pLI_c, pF_c, pFF_c, pD_c, pDD_c, mapc_some, mapc_none, mapc_ite, sdup_c, spop_c, sdupx1_c, sdup2_c, br1_eq, br1_ne, br1_lt, br1_ge, br1_gt, br1_le, br2_eq, br2_ne, br2_lt, br2_ge, br2_gt, br2_le, tgt, tgOk, hfd, gI_sI, gI_sL, gI_sF, gI_sD, gI_sR, gL_sI, gL_sL, gL_sF, gL_sD, gL_sR, gF_sI, gF_sL, gF_sF, gF_sD, gF_sR, gD_sI, gD_sL, gD_sF, gD_sD, gD_sR, gR_sI, gR_sL, gR_sF, gR_sD, gR_sR, gI_alo, gL_alo, gF_alo, gD_alo, gR_alo, kd_sI, kd_sL, kd_sF, kd_sD, kd_sR, nx_sI, nx_sL, nx_sF, nx_sD, nx_sR, nc_sI, nc_sL, nc_sF, nc_sD, nc_sR, ns_sI, ns_sL, ns_sF, ns_sD, ns_sR, kd_alo, nx_alo, nc_alo, ns_alo, narO_0, narO_1, narO_2, narO_3, narO_4, vF_0, vF_1, vF_2, vF_3, vF_4, vF_5, vF_6, vF_7, vF_8, stF_int, stF_long, stF_float, stF_double, stF_null, stF_ref, stF_rf, Nat.reduceAdd, Nat.reduceSub, Nat.reduceMul, Nat.reduceEqDiff, Nat.reduceBEq, Nat.reduceLeDiff, Nat.reduceBneDiff, Int.reduceAdd, Int.reduceSub, Int.reduceNeg, Int.reduceToNat, Int.reduceLE, Int.reduceLT, Int.cast_ofNat_Int, reduceIte, ite_true, ite_false, and_true, true_and, and_false, false_and, and_self, or_true, true_or, or_false, false_or, decide_true, decide_false, decide_eq_true_eq, eq_self, not_true_eq_false, not_false_eq_true, reduceCtorEq, Bool.false_eq_true, Nat.reduceLT, Int.ofNat_zero, Int.natCast_zero, hF_41_149, hF_41_152, ic_0, ic_1, ic_m1, ct_204, ct_300, ct_200, ct_201, ct_301, ct_202, ct_203, ct_205, ct_206, ct_207, ct_210, ct_211, ct_212, ct_213, ct_214, ct_215, ct_216, ct_217, ct_218, ia_200, ia_201, ia_202, ia_203, ia_204, ia_205, ia_206, ia_207, ia_210, ia_211, ia_212, ia_213, ia_214, ia_215, ia_216, ia_217, ia_218, ia_300, ia_301, ne_eq, okd, okf, dc0, dc1, Fin.isValue, Fin.reduceEq, lit_eq, lit_m1, lit_m2, nb_0, nb_1, Nat.reduceMod, Int32.reduceLT, Int32.reduceAdd, Int32.reduceSub, Int32.reduceMul, kArT, fk_170 H, fr_170_149 H, fk_175 H, m1, e0, e3, e4, g1, c0, i3_succ]
theorem w_findB {h : Hp} (H : FX h) {e i : Nat} {N : List NE} (M : MN h N) {p : Nat} (hi : i < 6002) (hf : gI h 173 i = i3 p) (he : gI h 174 i = i3 e) (hpe : p ≤ e) (he6 : e ≤ 6000) (hb : vld (byF (gI h 171) p (e - p))) (w : Nat) : evM (w + 68) 459 [.ref 170, .int (i3 i)] h = some (.inl (some (.int (fiV N (byF (gI h 171) p (e - p))))), h) := by
  have hk := fun w => w_key H w hi hf he hpe he6
  have hl := fi_L H M hb (w + 44) (i3 i) N.length 0 (by omega)
  rw [List.drop_zero] at hl
  have er : (match N.findIdx? (fun e_1 => decide (e_1.1 = byF (gI h 171) p (e - p))) with | some j => i3 (0 + j) | none => -1) = fiV N (byF (gI h 171) p (e - p)) := by
    unfold fiV
    cases N.findIdx? (fun e_1 => decide (e_1.1 = byF (gI h 171) p (e - p))) with
    | none => rfl
    | some j => show i3 (0 + j) = i3 j; rw [Nat.zero_add]
  rw [er] at hl
  rw [← hl, evM_to M_X13_find 44 24 _ (by rfl) (by rfl) (by rfl) (Nat.le_of_ble_eq_true rfl) (by rfl), i3_0]
  simp only [ev_at (M := M_X13_find) dX13_find_0, ev_at (M := M_X13_find) dX13_find_1, ev_at (M := M_X13_find) dX13_find_2, ev_at (M := M_X13_find) dX13_find_5, ev_at (M := M_X13_find) dX13_find_6, ev_at (M := M_X13_find) dX13_find_7, ev_at (M := M_X13_find) dX13_find_11, ev_at (M := M_X13_find) dX13_find_12, ev_at (M := M_X13_find) dX13_find_15, ev_at (M := M_X13_find) dX13_find_18, ev_at (M := M_X13_find) dX13_find_19, ev_at (M := M_X13_find) dX13_find_22, ev_at (M := M_X13_find) dX13_find_24, ev_at (M := M_X13_find) dX13_find_25, ev_at (M := M_X13_find) dX13_find_26, ev_at (M := M_X13_find) dX13_find_27, ev_at (M := M_X13_find) dX13_find_30, ev_at (M := M_X13_find) dX13_find_32, ev_at (M := M_X13_find) dX13_find_33, ev_at (M := M_X13_find) dX13_find_36, ev_at (M := M_X13_find) dX13_find_39, ev_at (M := M_X13_find) dX13_find_40, x_aload_n, x_getfield, x_goto, x_iconst, x_ifCond, x_if_icmp, x_iinc, x_iload, x_iload_n, x_invokevirtual, x_ireturn, x_istore, x_laload, x_lcmp, x_lload_n, x_lstore_n, fT_43_489, fT_43_81, mV_43_533, o_X13_find, r_X13_find, l_X13_find, h_X13_find, cont_go, cont_rt, cont_th, cont_cal, cont_none, cont_ite, aftE_v, aftE_0, aftE_x, aftE_none, aftE_ite, hdk_h, hdk_0, kLd, kS1, kS2, kInc, goB, kIf, kIf2, kNul, kTab, ldK, ariK, kGet, kPut, kPuts, goO, kALd, kPutI, kPutL, kPutF, kPutD, kPutA, wI, wB, wC, wS, kLen, kNewa, kNewA, kNew, kNews, kNewX, kCast, kInst, calS, kStat, calV, nulT, kVirt, kRetI, kRetL, kRetF, kRetD, kRetA, kRet0, kThr, kSpc, calI, kStt, kNat, kCpy, tI_, tL_, tF_, tD_, tA_n, tA_r, tC1_i, tC1_f, tC1_r, tC2_l, tC2_d, tA_rf, lg_nil, lg_cons, lin_nil, lin_cons, lf1_nil, lf1_cons, lf2_nil, lf2_cons, ls1, ls2, lent_nil, lent_cons, cat_int, cat_long, cat_float, cat_double, cat_null, cat_ref, cat_rf, rf_some, rf_none, f4_0, f4_1, f4_2, f4_3, popN_0, popN_s, wds_nil, wds_cons, asc_nil, asc_cons, pI_c, pII_c, pL_c, pLL_c, pLI_c, pF_c, pFF_c, pD_c, pDD_c, mapc_some, mapc_none, mapc_ite, sdup_c, spop_c, sdupx1_c, sdup2_c, br1_eq, br1_ne, br1_lt, br1_ge, br1_gt, br1_le, br2_eq, br2_ne, br2_lt, br2_ge, br2_gt, br2_le, tgt, tgOk, hfd, gI_sI, gI_sL, gI_sF, gI_sD, gI_sR, gL_sI, gL_sL, gL_sF, gL_sD, gL_sR, gF_sI, gF_sL, gF_sF, gF_sD, gF_sR, gD_sI, gD_sL, gD_sF, gD_sD, gD_sR, gR_sI, gR_sL, gR_sF, gR_sD, gR_sR, gI_alo, gL_alo, gF_alo, gD_alo, gR_alo, kd_sI, kd_sL, kd_sF, kd_sD, kd_sR, nx_sI, nx_sL, nx_sF, nx_sD, nx_sR, nc_sI, nc_sL, nc_sF, nc_sD, nc_sR, ns_sI, ns_sL, ns_sF, ns_sD, ns_sR, kd_alo, nx_alo, nc_alo, ns_alo, narO_0, narO_1, narO_2, narO_3, narO_4, vF_0, vF_1, vF_2, vF_3, vF_4, vF_5, vF_6, vF_7, vF_8, stF_int, stF_long, stF_float, stF_double, stF_null, stF_ref, stF_rf, Nat.reduceAdd, Nat.reduceSub, Nat.reduceMul, Nat.reduceEqDiff, Nat.reduceBEq, Nat.reduceLeDiff, Nat.reduceBneDiff, Int.reduceAdd, Int.reduceSub, Int.reduceNeg, Int.reduceToNat, Int.reduceLE, Int.reduceLT, Int.cast_ofNat_Int, reduceIte, ite_true, ite_false, and_true, true_and, and_false, false_and, and_self, or_true, true_or, or_false, false_or, decide_true, decide_false, decide_eq_true_eq, eq_self, not_true_eq_false, not_false_eq_true, reduceCtorEq, Bool.false_eq_true, Nat.reduceLT, Int.ofNat_zero, Int.natCast_zero, hF_41_149, hF_41_152, ic_0, ic_1, ic_m1, ct_204, ct_300, ct_200, ct_201, ct_301, ct_202, ct_203, ct_205, ct_206, ct_207, ct_210, ct_211, ct_212, ct_213, ct_214, ct_215, ct_216, ct_217, ct_218, ia_200, ia_201, ia_202, ia_203, ia_204, ia_205, ia_206, ia_207, ia_210, ia_211, ia_212, ia_213, ia_214, ia_215, ia_216, ia_217, ia_218, ia_300, ia_301, ne_eq, okd, okf, dc0, dc1, Fin.isValue, Fin.reduceEq, lit_eq, lit_m1, lit_m2, nb_0, nb_1, Nat.reduceMod, Int32.reduceLT, Int32.reduceAdd, Int32.reduceSub, Int32.reduceMul, kArT, fk_170 H, fr_170_149 H, fk_175 H, hk]
theorem fiV_fnd (N : List NE) (b : List Int32) : (fnd N b = none ∧ fiV N b = -1) ∨ ∃ j x, N[j]? = some x ∧ x.1 = b ∧ fnd N b = some x.2 ∧ fiV N b = i3 j ∧ j < N.length := by
  unfold fnd fiV
  cases hj : N.findIdx? (fun e => decide (e.1 = b)) with
  | none =>
    left
    refine ⟨?_, rfl⟩
    rw [List.findIdx?_eq_none_iff] at hj
    rw [List.find?_eq_none.mpr (fun x hx => by rw [hj x hx]; decide)]
    rfl
  | some j =>
    right
    obtain ⟨h1, h2, h3⟩ := List.findIdx?_eq_some_iff_getElem.mp hj
    refine ⟨j, N[j], List.getElem?_eq_getElem h1, of_decide_eq_true h2, ?_, rfl, h1⟩
    have : N.find? (fun e => decide (e.1 = b)) = some N[j] := by
      rw [List.find?_eq_some_iff_getElem]
      exact ⟨h2, j, h1, rfl, fun k hk => by have := h3 k hk; simpa using this⟩
    rw [this]
    rfl
/-- a token that is a name, and that isn't the last one, is the name at its place -/
theorem nm_tok {t : Nat → Int32} {n i : Nat} (hn : n ≤ 6000) (hk : (tks t n i).2.1 = 1) (hl : (tks t n (i + 1)).2.1 ≠ 0) : nmAt t (tks t n i).1 = byF t (tks t n i).1 ((tks t n i).2.2.1 - (tks t n i).1) ∧ vld (nmAt t (tks t n i).1) ∧ (tks t n i).1 ≤ (tks t n i).2.2.1 ∧ (tks t n i).2.2.1 < n := by
  have hk' := hk
  rw [tks_lx] at hk'
  have hq : (tks t n i).1 < n ∧ isL (t (tks t n i).1) = true ∧ (lx t n (tks t n i).1).2.1 = scn (fun q => isL (bAt t n q) || isD (bAt t n q)) (n - (tks t n i).1) (tks t n i).1 ∧ ¬ 12 < scn (fun q => isL (bAt t n q) || isD (bAt t n q)) (n - (tks t n i).1) (tks t n i).1 - (tks t n i).1 := by
    have k0 : ∀ {a : Nat} {x : Nat × Option Int32 × Option (UInt64 × Bool)}, ((a, x) : Lx).1 = 1 → a = 1 := fun h => h
    generalize (tks t n i).1 = p at hk' ⊢
    unfold lx at hk' ⊢
    split at hk'
    · exact absurd (k0 hk') (by decide)
    · rename_i h1
      rw [if_neg h1]
      split at hk'
      · rename_i h2
        rw [if_pos h2]
        split at hk'
        · exact absurd (k0 hk') (by decide)
        · rename_i h3
          rw [if_neg h3]
          cases hw : wdS t p (scn (fun q => isL (bAt t n q) || isD (bAt t n q)) (n - p) p - p) 37 0 with
          | none => exact ⟨by omega, h2, rfl, h3⟩
          | some v => rw [hw] at hk'; exact absurd (k0 hk') (by decide)
      · split at hk'
        · have h9 := k0 hk'
          split at h9 <;> exact absurd h9 (by decide)
        · split at hk'
          · have h9 := k0 hk'
            split at h9 <;> exact absurd h9 (by decide)
          · have h9 := k0 hk'
            split at h9 <;> exact absurd h9 (by decide)
  obtain ⟨q1, q2, q3, q4⟩ := hq
  rw [← tks_lx] at q3
  have g1 := scn_ge (fun q => isL (bAt t n q) || isD (bAt t n q)) (n - (tks t n i).1) (tks t n i).1
  have g2 := scn_le (fun q => isL (bAt t n q) || isD (bAt t n q)) (n - (tks t n i).1) (tks t n i).1
  have hend : (tks t n i).2.2.1 < n := by
    have e := tks_pE t n (i + 1)
    have hne : ¬ n ≤ skp t n (tks t n i).2.2.1 := by
      intro h9
      apply hl
      rw [e]
      show (lx t n (skp t n (tks t n i).2.2.1)).1 = 0
      rw [lx_end t h9]
    have := scn_le (fun q => decide (q < n) && isB (t q)) (n - (tks t n i).2.2.1) (tks t n i).2.2.1
    have g := scn_ge (fun q => decide (q < n) && isB (t q)) (n - (tks t n i).2.2.1) (tks t n i).2.2.1
    unfold skp at hne
    omega
  have hstop : (isL (bAt t n (tks t n i).2.2.1) || isD (bAt t n (tks t n i).2.2.1)) = false := by
    have := scn_stop (fun q => isL (bAt t n q) || isD (bAt t n q)) (n - (tks t n i).1) (tks t n i).1 (by
      show (isL (bAt t n ((tks t n i).1 + (n - (tks t n i).1))) || _) = false
      rw [bAt_ge (by omega)]
      rfl)
    rw [← q3] at this
    exact this
  have hall : ∀ q, (tks t n i).1 ≤ q → q < (tks t n i).2.2.1 → (isL (t q) || isD (t q)) = true := by
    intro q h1 h2
    have := scn_all (fun q => isL (bAt t n q) || isD (bAt t n q)) (n - (tks t n i).1) (tks t n i).1 q h1 (by rw [← q3]; exact h2)
    have eb : bAt t n q = t q := if_pos (by omega)
    rw [← eb]
    exact this
  rw [← q3] at g1 g2 q4
  have hm : ∀ f p, (∀ q, p ≤ q → q < (tks t n i).2.2.1 → (isL (t q) || isD (t q)) = true) → p ≤ (tks t n i).2.2.1 → (tks t n i).2.2.1 ≤ p + f → scn (fun q => isL (t q) || isD (t q)) f p = (tks t n i).2.2.1 := by
    intro f
    induction f with
    | zero => intro p _ h1 h2; rw [scn_0]; omega
    | succ f ih =>
      intro p ha h1 h2
      rw [scn_s]
      by_cases he : p = (tks t n i).2.2.1
      · rw [if_neg]
        · exact he
        · rw [he]
          have eb : bAt t n (tks t n i).2.2.1 = t (tks t n i).2.2.1 := if_pos hend
          rw [eb] at hstop
          show ¬ (isL (t (tks t n i).2.2.1) || isD (t (tks t n i).2.2.1)) = true
          rw [hstop]
          decide
      · rw [if_pos (ha p (Nat.le_refl _) (by omega))]
        exact ih (p + 1) (fun q h3 h4 => ha q (by omega) h4) (by omega) (by omega)
  have hlen : nmLen t (tks t n i).1 = (tks t n i).2.2.1 - (tks t n i).1 := by
    unfold nmLen
    rw [hm (min 12 (6000 - (tks t n i).1)) (tks t n i).1 hall g1 (by omega)]
  have e1 : nmAt t (tks t n i).1 = byF t (tks t n i).1 ((tks t n i).2.2.1 - (tks t n i).1) := by unfold nmAt; rw [hlen]
  refine ⟨e1, ?_, g1, hend⟩
  rw [e1]
  refine ⟨by rw [byF_len]; omega, fun c hc => ?_⟩
  obtain ⟨k, h1, rfl⟩ := byF_mem _ _ _ _ hc
  have := hall ((tks t n i).1 + k) (by omega) (by omega)
  rw [Bool.or_eq_true] at this
  exact this
