/-! PROG p7: the model's ranges and sets -/
set_option maxRecDepth 100000
def VS (h : Hp) (vs : Int32) (vm : Int32) (st : Nat → Int32) (lo : UInt64) (hi : UInt64) (my : Int64) : Hp := (h.1, h.2.1, (fun b j => if b = 170 then (if j = 173 then vs else if j = 177 then vm else gI h b j) else if b = 190 then st j else gI h b j), (fun b j => if b = 170 then (if j = 178 then my else gL h b j) else gL h b j), h.2.2.2.2.1, (fun b j => if b = 170 then (if j = 174 then lo else if j = 175 then hi else gD h b j) else gD h b j), h.2.2.2.2.2.2)
theorem nx_VS (h : Hp) (vs : Int32) (vm : Int32) (st : Nat → Int32) (lo : UInt64) (hi : UInt64) (my : Int64) : nx (VS h vs vm st lo hi my) = nx h := rfl
theorem nc_VS (h : Hp) (vs : Int32) (vm : Int32) (st : Nat → Int32) (lo : UInt64) (hi : UInt64) (my : Int64) : nc (VS h vs vm st lo hi my) = nc h := rfl
theorem ns_VS (h : Hp) (vs : Int32) (vm : Int32) (st : Nat → Int32) (lo : UInt64) (hi : UInt64) (my : Int64) : ns (VS h vs vm st lo hi my) = ns h := rfl
theorem kd_VS (h : Hp) (vs : Int32) (vm : Int32) (st : Nat → Int32) (lo : UInt64) (hi : UInt64) (my : Int64) (b : Nat) : kd (VS h vs vm st lo hi my) b = kd h b := rfl
theorem gI_VS_170_173 (h : Hp) (vs : Int32) (vm : Int32) (st : Nat → Int32) (lo : UInt64) (hi : UInt64) (my : Int64) : gI (VS h vs vm st lo hi my) 170 173 = vs := rfl
theorem gI_VS_170_177 (h : Hp) (vs : Int32) (vm : Int32) (st : Nat → Int32) (lo : UInt64) (hi : UInt64) (my : Int64) : gI (VS h vs vm st lo hi my) 170 177 = vm := rfl
theorem gI_VS_190 (h : Hp) (vs : Int32) (vm : Int32) (st : Nat → Int32) (lo : UInt64) (hi : UInt64) (my : Int64) (j : Nat) : gI (VS h vs vm st lo hi my) 190 j = st j := rfl
theorem gI_VS (h : Hp) (vs : Int32) (vm : Int32) (st : Nat → Int32) (lo : UInt64) (hi : UInt64) (my : Int64) (b j : Nat) (h170 : b ≠ 170) (h190 : b ≠ 190) : gI (VS h vs vm st lo hi my) b j = gI h b j := by
  show (if _ then _ else _) = _
  rw [if_neg h170, if_neg h190]
theorem sI_VS (h : Hp) (vs : Int32) (vm : Int32) (st : Nat → Int32) (lo : UInt64) (hi : UInt64) (my : Int64) (b j : Nat) (v : Int32) (h170 : b ≠ 170) (h190 : b ≠ 190) : sI (VS h vs vm st lo hi my) b j v = VS (sI h b j v) vs vm st lo hi my := by
  refine Prod.ext rfl (Prod.ext rfl (Prod.ext ?_ rfl))
  funext c k
  simp only [VS, sI, gI, up2]
  by_cases hc : c = b
  · subst hc
    simp [h170, h190]
  · simp [hc]
theorem sI_VS_170_173 (h : Hp) (vs : Int32) (vm : Int32) (st : Nat → Int32) (lo : UInt64) (hi : UInt64) (my : Int64) (v : Int32) : sI (VS h vs vm st lo hi my) 170 173 v = VS h v vm st lo hi my := by
  refine Prod.ext rfl (Prod.ext rfl (Prod.ext ?_ rfl))
  funext c k
  simp only [VS, sI, gI, up2]
  by_cases hc : c = 170
  · subst hc
    by_cases hk : k = 173
    · subst hk; simp
    · simp [hk]
  · simp [hc]
theorem sI_VS_170_177 (h : Hp) (vs : Int32) (vm : Int32) (st : Nat → Int32) (lo : UInt64) (hi : UInt64) (my : Int64) (v : Int32) : sI (VS h vs vm st lo hi my) 170 177 v = VS h vs v st lo hi my := by
  refine Prod.ext rfl (Prod.ext rfl (Prod.ext ?_ rfl))
  funext c k
  simp only [VS, sI, gI, up2]
  by_cases hc : c = 170
  · subst hc
    by_cases hk : k = 177
    · subst hk; simp
    · simp [hk]
  · simp [hc]
theorem sI_VS_190 (h : Hp) (vs : Int32) (vm : Int32) (st : Nat → Int32) (lo : UInt64) (hi : UInt64) (my : Int64) (j : Nat) (v : Int32) : sI (VS h vs vm st lo hi my) 190 j v = VS h vs vm (upz st j v) lo hi my := by
  refine Prod.ext rfl (Prod.ext rfl (Prod.ext ?_ rfl))
  funext c k
  simp only [VS, sI, gI, up2, upz]
  by_cases hc : c = 190
  · subst hc
    simp
  · simp [hc]
theorem gL_VS_170_178 (h : Hp) (vs : Int32) (vm : Int32) (st : Nat → Int32) (lo : UInt64) (hi : UInt64) (my : Int64) : gL (VS h vs vm st lo hi my) 170 178 = my := rfl
theorem gL_VS (h : Hp) (vs : Int32) (vm : Int32) (st : Nat → Int32) (lo : UInt64) (hi : UInt64) (my : Int64) (b j : Nat) (h170 : b ≠ 170) : gL (VS h vs vm st lo hi my) b j = gL h b j := by
  show (if _ then _ else _) = _
  rw [if_neg h170]
theorem sL_VS (h : Hp) (vs : Int32) (vm : Int32) (st : Nat → Int32) (lo : UInt64) (hi : UInt64) (my : Int64) (b j : Nat) (v : Int64) (h170 : b ≠ 170) : sL (VS h vs vm st lo hi my) b j v = VS (sL h b j v) vs vm st lo hi my := by
  refine Prod.ext rfl (Prod.ext rfl (Prod.ext rfl (Prod.ext ?_ rfl)))
  funext c k
  simp only [VS, sL, gL, up2]
  by_cases hc : c = b
  · subst hc
    simp [h170]
  · simp [hc]
theorem sL_VS_170_178 (h : Hp) (vs : Int32) (vm : Int32) (st : Nat → Int32) (lo : UInt64) (hi : UInt64) (my : Int64) (v : Int64) : sL (VS h vs vm st lo hi my) 170 178 v = VS h vs vm st lo hi v := by
  refine Prod.ext rfl (Prod.ext rfl (Prod.ext rfl (Prod.ext ?_ rfl)))
  funext c k
  simp only [VS, sL, gL, up2]
  by_cases hc : c = 170
  · subst hc
    by_cases hk : k = 178
    · subst hk; simp
    · simp [hk]
  · simp [hc]
theorem gF_VS (h : Hp) (vs : Int32) (vm : Int32) (st : Nat → Int32) (lo : UInt64) (hi : UInt64) (my : Int64) (b j : Nat) : gF (VS h vs vm st lo hi my) b j = gF h b j := rfl
theorem sF_VS (h : Hp) (vs : Int32) (vm : Int32) (st : Nat → Int32) (lo : UInt64) (hi : UInt64) (my : Int64) (b j : Nat) (v : UInt32) : sF (VS h vs vm st lo hi my) b j v = VS (sF h b j v) vs vm st lo hi my := rfl
theorem gD_VS_170_174 (h : Hp) (vs : Int32) (vm : Int32) (st : Nat → Int32) (lo : UInt64) (hi : UInt64) (my : Int64) : gD (VS h vs vm st lo hi my) 170 174 = lo := rfl
theorem gD_VS_170_175 (h : Hp) (vs : Int32) (vm : Int32) (st : Nat → Int32) (lo : UInt64) (hi : UInt64) (my : Int64) : gD (VS h vs vm st lo hi my) 170 175 = hi := rfl
theorem gD_VS (h : Hp) (vs : Int32) (vm : Int32) (st : Nat → Int32) (lo : UInt64) (hi : UInt64) (my : Int64) (b j : Nat) (h170 : b ≠ 170) : gD (VS h vs vm st lo hi my) b j = gD h b j := by
  show (if _ then _ else _) = _
  rw [if_neg h170]
theorem sD_VS (h : Hp) (vs : Int32) (vm : Int32) (st : Nat → Int32) (lo : UInt64) (hi : UInt64) (my : Int64) (b j : Nat) (v : UInt64) (h170 : b ≠ 170) : sD (VS h vs vm st lo hi my) b j v = VS (sD h b j v) vs vm st lo hi my := by
  refine Prod.ext rfl (Prod.ext rfl (Prod.ext rfl (Prod.ext rfl (Prod.ext rfl (Prod.ext ?_ rfl)))))
  funext c k
  simp only [VS, sD, gD, up2]
  by_cases hc : c = b
  · subst hc
    simp [h170]
  · simp [hc]
theorem sD_VS_170_174 (h : Hp) (vs : Int32) (vm : Int32) (st : Nat → Int32) (lo : UInt64) (hi : UInt64) (my : Int64) (v : UInt64) : sD (VS h vs vm st lo hi my) 170 174 v = VS h vs vm st v hi my := by
  refine Prod.ext rfl (Prod.ext rfl (Prod.ext rfl (Prod.ext rfl (Prod.ext rfl (Prod.ext ?_ rfl)))))
  funext c k
  simp only [VS, sD, gD, up2]
  by_cases hc : c = 170
  · subst hc
    by_cases hk : k = 174
    · subst hk; simp
    · simp [hk]
  · simp [hc]
theorem sD_VS_170_175 (h : Hp) (vs : Int32) (vm : Int32) (st : Nat → Int32) (lo : UInt64) (hi : UInt64) (my : Int64) (v : UInt64) : sD (VS h vs vm st lo hi my) 170 175 v = VS h vs vm st lo v my := by
  refine Prod.ext rfl (Prod.ext rfl (Prod.ext rfl (Prod.ext rfl (Prod.ext rfl (Prod.ext ?_ rfl)))))
  funext c k
  simp only [VS, sD, gD, up2]
  by_cases hc : c = 170
  · subst hc
    by_cases hk : k = 175
    · subst hk; simp
    · simp [hk]
  · simp [hc]
theorem gR_VS (h : Hp) (vs : Int32) (vm : Int32) (st : Nat → Int32) (lo : UInt64) (hi : UInt64) (my : Int64) (b j : Nat) : gR (VS h vs vm st lo hi my) b j = gR h b j := rfl
theorem sR_VS (h : Hp) (vs : Int32) (vm : Int32) (st : Nat → Int32) (lo : UInt64) (hi : UInt64) (my : Int64) (b j : Nat) (v : Option Nat) : sR (VS h vs vm st lo hi my) b j v = VS (sR h b j v) vs vm st lo hi my := rfl
theorem VS_self (h : Hp) : VS h (gI h 170 173) (gI h 170 177) (gI h 190) (gD h 170 174) (gD h 170 175) (gL h 170 178) = h := Prod.ext rfl (Prod.ext rfl (Prod.ext (funext fun c => funext fun k => by simp only [VS, gI];  repeat (split <;> first | rfl | (subst_vars; rfl) | skip)) (Prod.ext (funext fun c => funext fun k => by simp only [VS, gL];  repeat (split <;> first | rfl | (subst_vars; rfl) | skip)) (Prod.ext rfl (Prod.ext (funext fun c => funext fun k => by simp only [VS, gD];  repeat (split <;> first | rfl | (subst_vars; rfl) | skip)) rfl)))))
theorem FX_VS (h : Hp) (vs : Int32) (vm : Int32) (st : Nat → Int32) (lo : UInt64) (hi : UInt64) (my : Int64) (H : FX h) : FX (VS h vs vm st lo hi my) := FX_of H rfl rfl rfl (fun b k hb => gI_VS h vs vm st lo hi my b k (Nat.ne_of_lt (Nat.lt_of_lt_of_le hb (by decide))) (Nat.ne_of_lt (Nat.lt_of_lt_of_le hb (by decide))))

theorem gI_VS_o (h : Hp) (vs vm : Int32) (st : Nat → Int32) (lo hi : UInt64) (my : Int64) (j : Nat) (h1 : j ≠ 173) (h2 : j ≠ 177) : gI (VS h vs vm st lo hi my) 170 j = gI h 170 j := by
  show (if j = 173 then vs else if j = 177 then vm else gI h 170 j) = _
  rw [if_neg h1, if_neg h2]
theorem sI_VS_f (h : Hp) (vs vm : Int32) (st : Nat → Int32) (lo hi : UInt64) (my : Int64) (j : Nat) (v : Int32) (h1 : j ≠ 173) (h2 : j ≠ 177) : sI (VS h vs vm st lo hi my) 170 j v = VS (sI h 170 j v) vs vm st lo hi my := by
  refine Prod.ext rfl (Prod.ext rfl (Prod.ext ?_ rfl))
  funext x k
  simp only [VS, sI, gI, up2]
  by_cases hx : x = 170
  · subst hx
    by_cases hj : k = j
    · subst hj; simp [h1, h2]
    · simp [hj]
  · simp [hx]
theorem MTK_g {h h' : Hp} {n L : Nat} (K : MTK h n L) (e0 : gI h' 170 141 = gI h 170 141) (e1 : ∀ a, 171 ≤ a → a ≤ 174 → gI h' a = gI h a) : MTK h' n L := by
  obtain ⟨k1, k2, k3, k4, k5, k6, k7⟩ := K
  unfold MTK tokOK at *
  rw [e0, e1 171 (by decide) (by decide), e1 172 (by decide) (by decide), e1 173 (by decide) (by decide), e1 174 (by decide) (by decide)]
  exact ⟨k1, k2, k3, k4, k5, k6, k7⟩
theorem MN_g {h h' : Hp} {N : List NE} (M : MN h N) (e0 : gI h' 170 152 = gI h 170 152) (e1 : gL h' 175 = gL h 175) (e2 : gI h' 176 = gI h 176) (e3 : gI h' 177 = gI h 177) : MN h' N := by
  unfold MN at *
  rw [e0, e1, e2, e3]
  exact M
section VT
variable {h : Hp} (vs vm : Int32) (st : Nat → Int32) (lo hi : UInt64) (my : Int64)
theorem MTK_VS {n L : Nat} (K : MTK h n L) : MTK (VS h vs vm st lo hi my) n L := MTK_g K (gI_VS_o h vs vm st lo hi my 141 (by decide) (by decide)) (fun a h1 h2 => funext fun j => gI_VS h vs vm st lo hi my a j (by omega) (by omega))
theorem MN_VS {N : List NE} (M : MN h N) : MN (VS h vs vm st lo hi my) N := MN_g M (gI_VS_o h vs vm st lo hi my 152 (by decide) (by decide)) rfl rfl rfl
theorem f9_VS (hf : gI h 170 169 = 0) : gI (VS h vs vm st lo hi my) 170 169 = 0 := (gI_VS_o h vs vm st lo hi my 169 (by decide) (by decide)).trans hf
end VT
/-- what a range's acts do, and what the model's range() does -/
def CR (h : Hp) (s : SM) (B : List PA) (i j : Nat) (bg wr vs vm : Int32) (st : Nat → Int32) (my : Int64) (o : Option Res) : Prop := (∃ a b, rnA (gI h 171) B (gon s) = gon (zcB s (b :: a :: zB s)) ∧ dOk a = true ∧ dOk b = true ∧ o = some (.inl none, ML (VS h vs vm st a b my) (i3 j) bg wr)) ∨ ∃ k x a b, 1 ≤ k ∧ k ≤ 9 ∧ rnA (gI h 171) B (gon s) = some (.inr (k, zW s)) ∧ o = some (.inl none, ML (VS (sI h 170 169 (i3 k)) vs vm st a b my) (i3 x) bg wr) ∧ i ≤ x ∧ x ≤ j
theorem c_range {h : Hp} (H : FX h) {n L s0 : Nat} {N : List NE} (K : MTK h n L) (M : MN h N) (hf : gI h 170 169 = 0) {i j : Nat} {B : List PA} (hz : raP (tkOf (gI h 171) n) s0 i = some (.inl (j, B))) (hjL : j < L) {s : SM} (hq : zQ s = none) (hN : wN (zW s) = N) (w : Nat) (bg wr vs vm : Int32) (st : Nat → Int32) (lo hi : UInt64) (my : Int64) : CR h s B i j bg wr vs vm st my (evM (w + 156) 463 [.ref 170] (ML (VS h vs vm st lo hi my) (i3 i) bg wr)) := by
  unfold raP at hz
  obtain ⟨k1, B1, B2, z1, z2, rfl⟩ := sqP_inv hz
  obtain ⟨-, -, rfl, rfl⟩ := muP_inv z1
  obtain ⟨k2, B3, B4, z3, z4, rfl⟩ := sqP_inv z2
  obtain ⟨k3, B5, B6, z5, z6, rfl⟩ := sqP_inv z4
  obtain ⟨-, -, rfl, rfl⟩ := muP_inv z5
  obtain ⟨k4, B7, B8, z7, z8, rfl⟩ := sqP_inv z6
  obtain ⟨-, -, rfl, rfl⟩ := muP_inv z8
  obtain ⟨y1, m1, -, f1, f2, -⟩ := bo_inv z3
  obtain ⟨y2, m2, -, f3, f4, -⟩ := bo_inv z7
  have e8 : ∀ kk, gI (sI h 170 169 (i3 kk)) 170 169 = i3 kk := fun kk => by rw [gI_sI, if_pos ⟨rfl, rfl⟩]
  have hB : ∀ r, rnA (gI h 171) ([] ++ (B3 ++ ([] ++ (B7 ++ [])))) r = rnA (gI h 171) B7 (rnA (gI h 171) B3 r) := fun r => by
    rw [List.nil_append, List.nil_append, List.append_nil, rnA_app]
  rw [evM_to M_X13_range 136 20 _ (by rfl) (by rfl) (by rfl) (Nat.le_of_ble_eq_true rfl) (by rfl)]
  rcases c_bound (h := VS h vs vm st lo hi my) (FX_VS _ _ _ _ _ _ _ H) (MTK_VS vs vm st lo hi my K) (MN_VS vs vm st lo hi my M) (f9_VS vs vm st lo hi my hf) z3 (by omega) hq hN w bg wr with ⟨v, c1, c2, c3⟩ | ⟨kk, v, x, c1, c2, c3, c4, c5, c6⟩
  case inr =>
    have e9 := i3_nat9 c1 c2
    rw [sI_VS_f _ _ _ _ _ _ _ _ _ (by decide) (by decide)] at c4
    refine Or.inr ⟨kk, x + 1 + 1, v, hi, c1, c2, ?_, ?_, by omega, by omega⟩
    · rw [hB, show rnA (gI h 171) B3 (gon s) = _ from c3, rnA_flt]
    · simp only [ev_at (M := M_X13_range) dX13_range_0, ev_at (M := M_X13_range) dX13_range_1, ev_at (M := M_X13_range) dX13_range_2, ev_at (M := M_X13_range) dX13_range_5, ev_at (M := M_X13_range) dX13_range_6, ev_at (M := M_X13_range) dX13_range_7, ev_at (M := M_X13_range) dX13_range_10, ev_at (M := M_X13_range) dX13_range_11, ev_at (M := M_X13_range) dX13_range_12, ev_at (M := M_X13_range) dX13_range_15, ev_at (M := M_X13_range) dX13_range_18, ev_at (M := M_X13_range) dX13_range_19, ev_at (M := M_X13_range) dX13_range_20, ev_at (M := M_X13_range) dX13_range_23, ev_at (M := M_X13_range) dX13_range_24, ev_at (M := M_X13_range) dX13_range_25, ev_at (M := M_X13_range) dX13_range_28, ev_at (M := M_X13_range) dX13_range_29, ev_at (M := M_X13_range) dX13_range_32, ev_at (M := M_X13_range) dX13_range_35, ev_at (M := M_X13_range) dX13_range_36, ev_at (M := M_X13_range) dX13_range_37, ev_at (M := M_X13_range) dX13_range_40, ev_at (M := M_X13_range) dX13_range_43, ev_at (M := M_X13_range) dX13_range_44, ev_at (M := M_X13_range) dX13_range_45, ev_at (M := M_X13_range) dX13_range_48, ev_at (M := M_X13_range) dX13_range_49, ev_at (M := M_X13_range) dX13_range_50, ev_at (M := M_X13_range) dX13_range_53, x_aload_n, x_dup, x_getfield, x_iadd, x_iconst, x_ifCond, x_invokevirtual, x_putfield, x_return_, fP_43_274, fP_43_556, fP_43_559, fT_43_274, fT_43_528, mV_43_552, o_X13_range, r_X13_range, l_X13_range, h_X13_range, cont_go, cont_rt, cont_th, cont_cal, cont_none, cont_ite, aftE_v, aftE_0, aftE_x, aftE_none, aftE_ite, hdk_h, hdk_0, kLd, kS1, kS2, kInc, goB, kIf, kIf2, kNul, kTab, ldK, ariK, kGet, kPut, kPuts, goO, kALd, kPutI, kPutL, kPutF, kPutD, kPutA, wI, wB, wC, wS, kLen, kNewa, kNewA, kNew, kNews, kNewX, kCast, kInst, calS, kStat, calV, nulT, kVirt, kRetI, kRetL, kRetF, kRetD, kRetA, kRet0, kThr, kSpc, calI, kStt, kNat, kCpy, tI_, tL_, tF_, tD_, tA_n, tA_r, tC1_i, tC1_f, tC1_r, tC2_l, tC2_d, tA_rf, lg_nil, lg_cons, lin_nil, lin_cons, lf1_nil, lf1_cons, lf2_nil, lf2_cons, ls1, ls2, lent_nil, lent_cons, cat_int, cat_long, cat_float, cat_double, cat_null, cat_ref, cat_rf, rf_some, rf_none, f4_0, f4_1, f4_2, f4_3, popN_0, popN_s, wds_nil, wds_cons, asc_nil, asc_cons, pI_c, pII_c, pL_c, pLL_c, pLI_c, pF_c, pFF_c, pD_c, pDD_c, mapc_some, mapc_none, mapc_ite, sdup_c, spop_c, sdupx1_c, sdup2_c, br1_eq, br1_ne, br1_lt, br1_ge, br1_gt, br1_le, br2_eq, br2_ne, br2_lt, br2_ge, br2_gt, br2_le, tgt, tgOk, hfd, gI_sI, gI_sL, gI_sF, gI_sD, gI_sR, gL_sI, gL_sL, gL_sF, gL_sD, gL_sR, gF_sI, gF_sL, gF_sF, gF_sD, gF_sR, gD_sI, gD_sL, gD_sF, gD_sD, gD_sR, gR_sI, gR_sL, gR_sF, gR_sD, gR_sR, gI_alo, gL_alo, gF_alo, gD_alo, gR_alo, kd_sI, kd_sL, kd_sF, kd_sD, kd_sR, nx_sI, nx_sL, nx_sF, nx_sD, nx_sR, nc_sI, nc_sL, nc_sF, nc_sD, nc_sR, ns_sI, ns_sL, ns_sF, ns_sD, ns_sR, kd_alo, nx_alo, nc_alo, ns_alo, narO_0, narO_1, narO_2, narO_3, narO_4, vF_0, vF_1, vF_2, vF_3, vF_4, vF_5, vF_6, vF_7, vF_8, stF_int, stF_long, stF_float, stF_double, stF_null, stF_ref, stF_rf, Nat.reduceAdd, Nat.reduceSub, Nat.reduceMul, Nat.reduceEqDiff, Nat.reduceBEq, Nat.reduceLeDiff, Nat.reduceBneDiff, Int.reduceAdd, Int.reduceSub, Int.reduceNeg, Int.reduceToNat, Int.reduceLE, Int.reduceLT, Int.cast_ofNat_Int, reduceIte, ite_true, ite_false, and_true, true_and, and_false, false_and, and_self, or_true, true_or, or_false, false_or, decide_true, decide_false, decide_eq_true_eq, eq_self, not_true_eq_false, not_false_eq_true, reduceCtorEq, Bool.false_eq_true, Nat.reduceLT, Int.ofNat_zero, Int.natCast_zero, hF_41_145, hF_41_169, hF_41_174, hF_41_175, ic_1, ct_204, ct_300, ct_200, ct_201, ct_301, ct_202, ct_203, ct_205, ct_206, ct_207, ct_210, ct_211, ct_212, ct_213, ct_214, ct_215, ct_216, ct_217, ct_218, ia_200, ia_201, ia_202, ia_203, ia_204, ia_205, ia_206, ia_207, ia_210, ia_211, ia_212, ia_213, ia_214, ia_215, ia_216, ia_217, ia_218, ia_300, ia_301, ne_eq, okd, okf, dc0, dc1, Fin.isValue, Fin.reduceEq, lit_eq, lit_m1, lit_m2, nb_0, nb_1, Nat.reduceMod, Int32.reduceLT, Int32.reduceAdd, Int32.reduceSub, Int32.reduceMul, kArT, nx_ML, nc_ML, ns_ML, kd_ML, gI_ML_170_145, sI_ML_170_145, gI_ML_170_147, sI_ML_170_147, gI_ML_170_148, sI_ML_170_148, gI_ML, gL_ML, sL_ML, gF_ML, sF_ML, gD_ML, sD_ML, gR_ML, sR_ML, gI_ML_o, fk_170 H, nx_VS, nc_VS, ns_VS, kd_VS, gI_VS_170_173, sI_VS_170_173, gI_VS_170_177, sI_VS_170_177, gI_VS_190, sI_VS_190, gI_VS, gL_VS_170_178, sL_VS_170_178, gL_VS, gF_VS, sF_VS, gD_VS_170_174, sD_VS_170_174, gD_VS_170_175, sD_VS_170_175, gD_VS, gR_VS, sR_VS, gI_VS_o, sI_VS_f, sI_ML_f, sI_ML, sI_VS, c4, e8, e9, i3_succ]
  rcases c_bound (h := VS h vs vm st v hi my) (FX_VS _ _ _ _ _ _ _ H) (MTK_VS vs vm st v hi my K) (MN_VS vs vm st v hi my M) (f9_VS vs vm st v hi my hf) (s := zcB s (v :: zB s)) z7 (by omega) hq hN w bg wr with ⟨u, d1, d2, d3⟩ | ⟨kk, u, x, d1, d2, d3, d4, d5, d6⟩
  · refine Or.inl ⟨v, u, ?_, c2, d2, ?_⟩
    · rw [hB, show rnA (gI h 171) B3 (gon s) = _ from c1]
      exact d1
    · simp only [ev_at (M := M_X13_range) dX13_range_0, ev_at (M := M_X13_range) dX13_range_1, ev_at (M := M_X13_range) dX13_range_2, ev_at (M := M_X13_range) dX13_range_5, ev_at (M := M_X13_range) dX13_range_6, ev_at (M := M_X13_range) dX13_range_7, ev_at (M := M_X13_range) dX13_range_10, ev_at (M := M_X13_range) dX13_range_11, ev_at (M := M_X13_range) dX13_range_12, ev_at (M := M_X13_range) dX13_range_15, ev_at (M := M_X13_range) dX13_range_18, ev_at (M := M_X13_range) dX13_range_19, ev_at (M := M_X13_range) dX13_range_20, ev_at (M := M_X13_range) dX13_range_23, ev_at (M := M_X13_range) dX13_range_24, ev_at (M := M_X13_range) dX13_range_25, ev_at (M := M_X13_range) dX13_range_28, ev_at (M := M_X13_range) dX13_range_29, ev_at (M := M_X13_range) dX13_range_32, ev_at (M := M_X13_range) dX13_range_35, ev_at (M := M_X13_range) dX13_range_36, ev_at (M := M_X13_range) dX13_range_37, ev_at (M := M_X13_range) dX13_range_40, ev_at (M := M_X13_range) dX13_range_43, ev_at (M := M_X13_range) dX13_range_44, ev_at (M := M_X13_range) dX13_range_45, ev_at (M := M_X13_range) dX13_range_48, ev_at (M := M_X13_range) dX13_range_49, ev_at (M := M_X13_range) dX13_range_50, ev_at (M := M_X13_range) dX13_range_53, x_aload_n, x_dup, x_getfield, x_iadd, x_iconst, x_ifCond, x_invokevirtual, x_putfield, x_return_, fP_43_274, fP_43_556, fP_43_559, fT_43_274, fT_43_528, mV_43_552, o_X13_range, r_X13_range, l_X13_range, h_X13_range, cont_go, cont_rt, cont_th, cont_cal, cont_none, cont_ite, aftE_v, aftE_0, aftE_x, aftE_none, aftE_ite, hdk_h, hdk_0, kLd, kS1, kS2, kInc, goB, kIf, kIf2, kNul, kTab, ldK, ariK, kGet, kPut, kPuts, goO, kALd, kPutI, kPutL, kPutF, kPutD, kPutA, wI, wB, wC, wS, kLen, kNewa, kNewA, kNew, kNews, kNewX, kCast, kInst, calS, kStat, calV, nulT, kVirt, kRetI, kRetL, kRetF, kRetD, kRetA, kRet0, kThr, kSpc, calI, kStt, kNat, kCpy, tI_, tL_, tF_, tD_, tA_n, tA_r, tC1_i, tC1_f, tC1_r, tC2_l, tC2_d, tA_rf, lg_nil, lg_cons, lin_nil, lin_cons, lf1_nil, lf1_cons, lf2_nil, lf2_cons, ls1, ls2, lent_nil, lent_cons, cat_int, cat_long, cat_float, cat_double, cat_null, cat_ref, cat_rf, rf_some, rf_none, f4_0, f4_1, f4_2, f4_3, popN_0, popN_s, wds_nil, wds_cons, asc_nil, asc_cons, pI_c, pII_c, pL_c, pLL_c, pLI_c, pF_c, pFF_c, pD_c, pDD_c, mapc_some, mapc_none, mapc_ite, sdup_c, spop_c, sdupx1_c, sdup2_c, br1_eq, br1_ne, br1_lt, br1_ge, br1_gt, br1_le, br2_eq, br2_ne, br2_lt, br2_ge, br2_gt, br2_le, tgt, tgOk, hfd, gI_sI, gI_sL, gI_sF, gI_sD, gI_sR, gL_sI, gL_sL, gL_sF, gL_sD, gL_sR, gF_sI, gF_sL, gF_sF, gF_sD, gF_sR, gD_sI, gD_sL, gD_sF, gD_sD, gD_sR, gR_sI, gR_sL, gR_sF, gR_sD, gR_sR, gI_alo, gL_alo, gF_alo, gD_alo, gR_alo, kd_sI, kd_sL, kd_sF, kd_sD, kd_sR, nx_sI, nx_sL, nx_sF, nx_sD, nx_sR, nc_sI, nc_sL, nc_sF, nc_sD, nc_sR, ns_sI, ns_sL, ns_sF, ns_sD, ns_sR, kd_alo, nx_alo, nc_alo, ns_alo, narO_0, narO_1, narO_2, narO_3, narO_4, vF_0, vF_1, vF_2, vF_3, vF_4, vF_5, vF_6, vF_7, vF_8, stF_int, stF_long, stF_float, stF_double, stF_null, stF_ref, stF_rf, Nat.reduceAdd, Nat.reduceSub, Nat.reduceMul, Nat.reduceEqDiff, Nat.reduceBEq, Nat.reduceLeDiff, Nat.reduceBneDiff, Int.reduceAdd, Int.reduceSub, Int.reduceNeg, Int.reduceToNat, Int.reduceLE, Int.reduceLT, Int.cast_ofNat_Int, reduceIte, ite_true, ite_false, and_true, true_and, and_false, false_and, and_self, or_true, true_or, or_false, false_or, decide_true, decide_false, decide_eq_true_eq, eq_self, not_true_eq_false, not_false_eq_true, reduceCtorEq, Bool.false_eq_true, Nat.reduceLT, Int.ofNat_zero, Int.natCast_zero, hF_41_145, hF_41_169, hF_41_174, hF_41_175, ic_1, ct_204, ct_300, ct_200, ct_201, ct_301, ct_202, ct_203, ct_205, ct_206, ct_207, ct_210, ct_211, ct_212, ct_213, ct_214, ct_215, ct_216, ct_217, ct_218, ia_200, ia_201, ia_202, ia_203, ia_204, ia_205, ia_206, ia_207, ia_210, ia_211, ia_212, ia_213, ia_214, ia_215, ia_216, ia_217, ia_218, ia_300, ia_301, ne_eq, okd, okf, dc0, dc1, Fin.isValue, Fin.reduceEq, lit_eq, lit_m1, lit_m2, nb_0, nb_1, Nat.reduceMod, Int32.reduceLT, Int32.reduceAdd, Int32.reduceSub, Int32.reduceMul, kArT, nx_ML, nc_ML, ns_ML, kd_ML, gI_ML_170_145, sI_ML_170_145, gI_ML_170_147, sI_ML_170_147, gI_ML_170_148, sI_ML_170_148, gI_ML, gL_ML, sL_ML, gF_ML, sF_ML, gD_ML, sD_ML, gR_ML, sR_ML, gI_ML_o, fk_170 H, nx_VS, nc_VS, ns_VS, kd_VS, gI_VS_170_173, sI_VS_170_173, gI_VS_170_177, sI_VS_170_177, gI_VS_190, sI_VS_190, gI_VS, gL_VS_170_178, sL_VS_170_178, gL_VS, gF_VS, sF_VS, gD_VS_170_174, sD_VS_170_174, gD_VS_170_175, sD_VS_170_175, gD_VS, gR_VS, sR_VS, gI_VS_o, sI_VS_f, sI_ML_f, sI_ML, sI_VS, c3, d3, hf, i3_succ]
  · have e9 := i3_nat9 d1 d2
    rw [sI_VS_f _ _ _ _ _ _ _ _ _ (by decide) (by decide)] at d4
    refine Or.inr ⟨kk, x + 1, v, u, d1, d2, ?_, ?_, by omega, by omega⟩
    · rw [hB, show rnA (gI h 171) B3 (gon s) = _ from c1]
      exact d3
    · simp only [ev_at (M := M_X13_range) dX13_range_0, ev_at (M := M_X13_range) dX13_range_1, ev_at (M := M_X13_range) dX13_range_2, ev_at (M := M_X13_range) dX13_range_5, ev_at (M := M_X13_range) dX13_range_6, ev_at (M := M_X13_range) dX13_range_7, ev_at (M := M_X13_range) dX13_range_10, ev_at (M := M_X13_range) dX13_range_11, ev_at (M := M_X13_range) dX13_range_12, ev_at (M := M_X13_range) dX13_range_15, ev_at (M := M_X13_range) dX13_range_18, ev_at (M := M_X13_range) dX13_range_19, ev_at (M := M_X13_range) dX13_range_20, ev_at (M := M_X13_range) dX13_range_23, ev_at (M := M_X13_range) dX13_range_24, ev_at (M := M_X13_range) dX13_range_25, ev_at (M := M_X13_range) dX13_range_28, ev_at (M := M_X13_range) dX13_range_29, ev_at (M := M_X13_range) dX13_range_32, ev_at (M := M_X13_range) dX13_range_35, ev_at (M := M_X13_range) dX13_range_36, ev_at (M := M_X13_range) dX13_range_37, ev_at (M := M_X13_range) dX13_range_40, ev_at (M := M_X13_range) dX13_range_43, ev_at (M := M_X13_range) dX13_range_44, ev_at (M := M_X13_range) dX13_range_45, ev_at (M := M_X13_range) dX13_range_48, ev_at (M := M_X13_range) dX13_range_49, ev_at (M := M_X13_range) dX13_range_50, ev_at (M := M_X13_range) dX13_range_53, x_aload_n, x_dup, x_getfield, x_iadd, x_iconst, x_ifCond, x_invokevirtual, x_putfield, x_return_, fP_43_274, fP_43_556, fP_43_559, fT_43_274, fT_43_528, mV_43_552, o_X13_range, r_X13_range, l_X13_range, h_X13_range, cont_go, cont_rt, cont_th, cont_cal, cont_none, cont_ite, aftE_v, aftE_0, aftE_x, aftE_none, aftE_ite, hdk_h, hdk_0, kLd, kS1, kS2, kInc, goB, kIf, kIf2, kNul, kTab, ldK, ariK, kGet, kPut, kPuts, goO, kALd, kPutI, kPutL, kPutF, kPutD, kPutA, wI, wB, wC, wS, kLen, kNewa, kNewA, kNew, kNews, kNewX, kCast, kInst, calS, kStat, calV, nulT, kVirt, kRetI, kRetL, kRetF, kRetD, kRetA, kRet0, kThr, kSpc, calI, kStt, kNat, kCpy, tI_, tL_, tF_, tD_, tA_n, tA_r, tC1_i, tC1_f, tC1_r, tC2_l, tC2_d, tA_rf, lg_nil, lg_cons, lin_nil, lin_cons, lf1_nil, lf1_cons, lf2_nil, lf2_cons, ls1, ls2, lent_nil, lent_cons, cat_int, cat_long, cat_float, cat_double, cat_null, cat_ref, cat_rf, rf_some, rf_none, f4_0, f4_1, f4_2, f4_3, popN_0, popN_s, wds_nil, wds_cons, asc_nil, asc_cons, pI_c, pII_c, pL_c, pLL_c, pLI_c, pF_c, pFF_c, pD_c, pDD_c, mapc_some, mapc_none, mapc_ite, sdup_c, spop_c, sdupx1_c, sdup2_c, br1_eq, br1_ne, br1_lt, br1_ge, br1_gt, br1_le, br2_eq, br2_ne, br2_lt, br2_ge, br2_gt, br2_le, tgt, tgOk, hfd, gI_sI, gI_sL, gI_sF, gI_sD, gI_sR, gL_sI, gL_sL, gL_sF, gL_sD, gL_sR, gF_sI, gF_sL, gF_sF, gF_sD, gF_sR, gD_sI, gD_sL, gD_sF, gD_sD, gD_sR, gR_sI, gR_sL, gR_sF, gR_sD, gR_sR, gI_alo, gL_alo, gF_alo, gD_alo, gR_alo, kd_sI, kd_sL, kd_sF, kd_sD, kd_sR, nx_sI, nx_sL, nx_sF, nx_sD, nx_sR, nc_sI, nc_sL, nc_sF, nc_sD, nc_sR, ns_sI, ns_sL, ns_sF, ns_sD, ns_sR, kd_alo, nx_alo, nc_alo, ns_alo, narO_0, narO_1, narO_2, narO_3, narO_4, vF_0, vF_1, vF_2, vF_3, vF_4, vF_5, vF_6, vF_7, vF_8, stF_int, stF_long, stF_float, stF_double, stF_null, stF_ref, stF_rf, Nat.reduceAdd, Nat.reduceSub, Nat.reduceMul, Nat.reduceEqDiff, Nat.reduceBEq, Nat.reduceLeDiff, Nat.reduceBneDiff, Int.reduceAdd, Int.reduceSub, Int.reduceNeg, Int.reduceToNat, Int.reduceLE, Int.reduceLT, Int.cast_ofNat_Int, reduceIte, ite_true, ite_false, and_true, true_and, and_false, false_and, and_self, or_true, true_or, or_false, false_or, decide_true, decide_false, decide_eq_true_eq, eq_self, not_true_eq_false, not_false_eq_true, reduceCtorEq, Bool.false_eq_true, Nat.reduceLT, Int.ofNat_zero, Int.natCast_zero, hF_41_145, hF_41_169, hF_41_174, hF_41_175, ic_1, ct_204, ct_300, ct_200, ct_201, ct_301, ct_202, ct_203, ct_205, ct_206, ct_207, ct_210, ct_211, ct_212, ct_213, ct_214, ct_215, ct_216, ct_217, ct_218, ia_200, ia_201, ia_202, ia_203, ia_204, ia_205, ia_206, ia_207, ia_210, ia_211, ia_212, ia_213, ia_214, ia_215, ia_216, ia_217, ia_218, ia_300, ia_301, ne_eq, okd, okf, dc0, dc1, Fin.isValue, Fin.reduceEq, lit_eq, lit_m1, lit_m2, nb_0, nb_1, Nat.reduceMod, Int32.reduceLT, Int32.reduceAdd, Int32.reduceSub, Int32.reduceMul, kArT, nx_ML, nc_ML, ns_ML, kd_ML, gI_ML_170_145, sI_ML_170_145, gI_ML_170_147, sI_ML_170_147, gI_ML_170_148, sI_ML_170_148, gI_ML, gL_ML, sL_ML, gF_ML, sF_ML, gD_ML, sD_ML, gR_ML, sR_ML, gI_ML_o, fk_170 H, nx_VS, nc_VS, ns_VS, kd_VS, gI_VS_170_173, sI_VS_170_173, gI_VS_170_177, sI_VS_170_177, gI_VS_190, sI_VS_190, gI_VS, gL_VS_170_178, sL_VS_170_178, gL_VS, gF_VS, sF_VS, gD_VS_170_174, sD_VS_170_174, gD_VS_170_175, sD_VS_170_175, gD_VS, gR_VS, sR_VS, gI_VS_o, sI_VS_f, sI_ML_f, sI_ML, sI_VS, c3, d4, hf, e8, e9, i3_succ]
