/-! PROG q8: the arrays of variables -/
set_option maxRecDepth 100000
def VB (h : Hp) (so : Nat → Int32) (ha : Nat → Int32) (le : Nat → UInt64) (mo : Nat → UInt64) (nb : Nat → Int32) (ma : Nat → Int32) (mm : Nat → Int64) : Hp := (h.1, h.2.1, (fun b j => if b = 178 then so j else if b = 179 then ha j else if b = 182 then nb j else if b = 183 then ma j else gI h b j), (fun b j => if b = 184 then mm j else gL h b j), h.2.2.2.2.1, (fun b j => if b = 180 then le j else if b = 181 then mo j else gD h b j), h.2.2.2.2.2.2)
theorem nx_VB (h : Hp) (so : Nat → Int32) (ha : Nat → Int32) (le : Nat → UInt64) (mo : Nat → UInt64) (nb : Nat → Int32) (ma : Nat → Int32) (mm : Nat → Int64) : nx (VB h so ha le mo nb ma mm) = nx h := rfl
theorem nc_VB (h : Hp) (so : Nat → Int32) (ha : Nat → Int32) (le : Nat → UInt64) (mo : Nat → UInt64) (nb : Nat → Int32) (ma : Nat → Int32) (mm : Nat → Int64) : nc (VB h so ha le mo nb ma mm) = nc h := rfl
theorem ns_VB (h : Hp) (so : Nat → Int32) (ha : Nat → Int32) (le : Nat → UInt64) (mo : Nat → UInt64) (nb : Nat → Int32) (ma : Nat → Int32) (mm : Nat → Int64) : ns (VB h so ha le mo nb ma mm) = ns h := rfl
theorem kd_VB (h : Hp) (so : Nat → Int32) (ha : Nat → Int32) (le : Nat → UInt64) (mo : Nat → UInt64) (nb : Nat → Int32) (ma : Nat → Int32) (mm : Nat → Int64) (b : Nat) : kd (VB h so ha le mo nb ma mm) b = kd h b := rfl
theorem gI_VB_178 (h : Hp) (so : Nat → Int32) (ha : Nat → Int32) (le : Nat → UInt64) (mo : Nat → UInt64) (nb : Nat → Int32) (ma : Nat → Int32) (mm : Nat → Int64) (j : Nat) : gI (VB h so ha le mo nb ma mm) 178 j = so j := rfl
theorem gI_VB_179 (h : Hp) (so : Nat → Int32) (ha : Nat → Int32) (le : Nat → UInt64) (mo : Nat → UInt64) (nb : Nat → Int32) (ma : Nat → Int32) (mm : Nat → Int64) (j : Nat) : gI (VB h so ha le mo nb ma mm) 179 j = ha j := rfl
theorem gI_VB_182 (h : Hp) (so : Nat → Int32) (ha : Nat → Int32) (le : Nat → UInt64) (mo : Nat → UInt64) (nb : Nat → Int32) (ma : Nat → Int32) (mm : Nat → Int64) (j : Nat) : gI (VB h so ha le mo nb ma mm) 182 j = nb j := rfl
theorem gI_VB_183 (h : Hp) (so : Nat → Int32) (ha : Nat → Int32) (le : Nat → UInt64) (mo : Nat → UInt64) (nb : Nat → Int32) (ma : Nat → Int32) (mm : Nat → Int64) (j : Nat) : gI (VB h so ha le mo nb ma mm) 183 j = ma j := rfl
theorem gI_VB (h : Hp) (so : Nat → Int32) (ha : Nat → Int32) (le : Nat → UInt64) (mo : Nat → UInt64) (nb : Nat → Int32) (ma : Nat → Int32) (mm : Nat → Int64) (b j : Nat) (h178 : b ≠ 178) (h179 : b ≠ 179) (h182 : b ≠ 182) (h183 : b ≠ 183) : gI (VB h so ha le mo nb ma mm) b j = gI h b j := by
  show (if _ then _ else _) = _
  rw [if_neg h178, if_neg h179, if_neg h182, if_neg h183]
theorem sI_VB (h : Hp) (so : Nat → Int32) (ha : Nat → Int32) (le : Nat → UInt64) (mo : Nat → UInt64) (nb : Nat → Int32) (ma : Nat → Int32) (mm : Nat → Int64) (b j : Nat) (v : Int32) (h178 : b ≠ 178) (h179 : b ≠ 179) (h182 : b ≠ 182) (h183 : b ≠ 183) : sI (VB h so ha le mo nb ma mm) b j v = VB (sI h b j v) so ha le mo nb ma mm := by
  refine Prod.ext rfl (Prod.ext rfl (Prod.ext ?_ rfl))
  funext c k
  simp only [VB, sI, gI, up2]
  by_cases hc : c = b
  · subst hc
    simp [h178, h179, h182, h183]
  · simp [hc]
theorem sI_VB_178 (h : Hp) (so : Nat → Int32) (ha : Nat → Int32) (le : Nat → UInt64) (mo : Nat → UInt64) (nb : Nat → Int32) (ma : Nat → Int32) (mm : Nat → Int64) (j : Nat) (v : Int32) : sI (VB h so ha le mo nb ma mm) 178 j v = VB h (upz so j v) ha le mo nb ma mm := by
  refine Prod.ext rfl (Prod.ext rfl (Prod.ext ?_ rfl))
  funext c k
  simp only [VB, sI, gI, up2, upz]
  by_cases hc : c = 178
  · subst hc
    simp
  · simp [hc]
theorem sI_VB_179 (h : Hp) (so : Nat → Int32) (ha : Nat → Int32) (le : Nat → UInt64) (mo : Nat → UInt64) (nb : Nat → Int32) (ma : Nat → Int32) (mm : Nat → Int64) (j : Nat) (v : Int32) : sI (VB h so ha le mo nb ma mm) 179 j v = VB h so (upz ha j v) le mo nb ma mm := by
  refine Prod.ext rfl (Prod.ext rfl (Prod.ext ?_ rfl))
  funext c k
  simp only [VB, sI, gI, up2, upz]
  by_cases hc : c = 179
  · subst hc
    simp
  · simp [hc]
theorem sI_VB_182 (h : Hp) (so : Nat → Int32) (ha : Nat → Int32) (le : Nat → UInt64) (mo : Nat → UInt64) (nb : Nat → Int32) (ma : Nat → Int32) (mm : Nat → Int64) (j : Nat) (v : Int32) : sI (VB h so ha le mo nb ma mm) 182 j v = VB h so ha le mo (upz nb j v) ma mm := by
  refine Prod.ext rfl (Prod.ext rfl (Prod.ext ?_ rfl))
  funext c k
  simp only [VB, sI, gI, up2, upz]
  by_cases hc : c = 182
  · subst hc
    simp
  · simp [hc]
theorem sI_VB_183 (h : Hp) (so : Nat → Int32) (ha : Nat → Int32) (le : Nat → UInt64) (mo : Nat → UInt64) (nb : Nat → Int32) (ma : Nat → Int32) (mm : Nat → Int64) (j : Nat) (v : Int32) : sI (VB h so ha le mo nb ma mm) 183 j v = VB h so ha le mo nb (upz ma j v) mm := by
  refine Prod.ext rfl (Prod.ext rfl (Prod.ext ?_ rfl))
  funext c k
  simp only [VB, sI, gI, up2, upz]
  by_cases hc : c = 183
  · subst hc
    simp
  · simp [hc]
theorem gL_VB_184 (h : Hp) (so : Nat → Int32) (ha : Nat → Int32) (le : Nat → UInt64) (mo : Nat → UInt64) (nb : Nat → Int32) (ma : Nat → Int32) (mm : Nat → Int64) (j : Nat) : gL (VB h so ha le mo nb ma mm) 184 j = mm j := rfl
theorem gL_VB (h : Hp) (so : Nat → Int32) (ha : Nat → Int32) (le : Nat → UInt64) (mo : Nat → UInt64) (nb : Nat → Int32) (ma : Nat → Int32) (mm : Nat → Int64) (b j : Nat) (h184 : b ≠ 184) : gL (VB h so ha le mo nb ma mm) b j = gL h b j := by
  show (if _ then _ else _) = _
  rw [if_neg h184]
theorem sL_VB (h : Hp) (so : Nat → Int32) (ha : Nat → Int32) (le : Nat → UInt64) (mo : Nat → UInt64) (nb : Nat → Int32) (ma : Nat → Int32) (mm : Nat → Int64) (b j : Nat) (v : Int64) (h184 : b ≠ 184) : sL (VB h so ha le mo nb ma mm) b j v = VB (sL h b j v) so ha le mo nb ma mm := by
  refine Prod.ext rfl (Prod.ext rfl (Prod.ext rfl (Prod.ext ?_ rfl)))
  funext c k
  simp only [VB, sL, gL, up2]
  by_cases hc : c = b
  · subst hc
    simp [h184]
  · simp [hc]
theorem sL_VB_184 (h : Hp) (so : Nat → Int32) (ha : Nat → Int32) (le : Nat → UInt64) (mo : Nat → UInt64) (nb : Nat → Int32) (ma : Nat → Int32) (mm : Nat → Int64) (j : Nat) (v : Int64) : sL (VB h so ha le mo nb ma mm) 184 j v = VB h so ha le mo nb ma (upz mm j v) := by
  refine Prod.ext rfl (Prod.ext rfl (Prod.ext rfl (Prod.ext ?_ rfl)))
  funext c k
  simp only [VB, sL, gL, up2, upz]
  by_cases hc : c = 184
  · subst hc
    simp
  · simp [hc]
theorem gF_VB (h : Hp) (so : Nat → Int32) (ha : Nat → Int32) (le : Nat → UInt64) (mo : Nat → UInt64) (nb : Nat → Int32) (ma : Nat → Int32) (mm : Nat → Int64) (b j : Nat) : gF (VB h so ha le mo nb ma mm) b j = gF h b j := rfl
theorem sF_VB (h : Hp) (so : Nat → Int32) (ha : Nat → Int32) (le : Nat → UInt64) (mo : Nat → UInt64) (nb : Nat → Int32) (ma : Nat → Int32) (mm : Nat → Int64) (b j : Nat) (v : UInt32) : sF (VB h so ha le mo nb ma mm) b j v = VB (sF h b j v) so ha le mo nb ma mm := rfl
theorem gD_VB_180 (h : Hp) (so : Nat → Int32) (ha : Nat → Int32) (le : Nat → UInt64) (mo : Nat → UInt64) (nb : Nat → Int32) (ma : Nat → Int32) (mm : Nat → Int64) (j : Nat) : gD (VB h so ha le mo nb ma mm) 180 j = le j := rfl
theorem gD_VB_181 (h : Hp) (so : Nat → Int32) (ha : Nat → Int32) (le : Nat → UInt64) (mo : Nat → UInt64) (nb : Nat → Int32) (ma : Nat → Int32) (mm : Nat → Int64) (j : Nat) : gD (VB h so ha le mo nb ma mm) 181 j = mo j := rfl
theorem gD_VB (h : Hp) (so : Nat → Int32) (ha : Nat → Int32) (le : Nat → UInt64) (mo : Nat → UInt64) (nb : Nat → Int32) (ma : Nat → Int32) (mm : Nat → Int64) (b j : Nat) (h180 : b ≠ 180) (h181 : b ≠ 181) : gD (VB h so ha le mo nb ma mm) b j = gD h b j := by
  show (if _ then _ else _) = _
  rw [if_neg h180, if_neg h181]
theorem sD_VB (h : Hp) (so : Nat → Int32) (ha : Nat → Int32) (le : Nat → UInt64) (mo : Nat → UInt64) (nb : Nat → Int32) (ma : Nat → Int32) (mm : Nat → Int64) (b j : Nat) (v : UInt64) (h180 : b ≠ 180) (h181 : b ≠ 181) : sD (VB h so ha le mo nb ma mm) b j v = VB (sD h b j v) so ha le mo nb ma mm := by
  refine Prod.ext rfl (Prod.ext rfl (Prod.ext rfl (Prod.ext rfl (Prod.ext rfl (Prod.ext ?_ rfl)))))
  funext c k
  simp only [VB, sD, gD, up2]
  by_cases hc : c = b
  · subst hc
    simp [h180, h181]
  · simp [hc]
theorem sD_VB_180 (h : Hp) (so : Nat → Int32) (ha : Nat → Int32) (le : Nat → UInt64) (mo : Nat → UInt64) (nb : Nat → Int32) (ma : Nat → Int32) (mm : Nat → Int64) (j : Nat) (v : UInt64) : sD (VB h so ha le mo nb ma mm) 180 j v = VB h so ha (upz le j v) mo nb ma mm := by
  refine Prod.ext rfl (Prod.ext rfl (Prod.ext rfl (Prod.ext rfl (Prod.ext rfl (Prod.ext ?_ rfl)))))
  funext c k
  simp only [VB, sD, gD, up2, upz]
  by_cases hc : c = 180
  · subst hc
    simp
  · simp [hc]
theorem sD_VB_181 (h : Hp) (so : Nat → Int32) (ha : Nat → Int32) (le : Nat → UInt64) (mo : Nat → UInt64) (nb : Nat → Int32) (ma : Nat → Int32) (mm : Nat → Int64) (j : Nat) (v : UInt64) : sD (VB h so ha le mo nb ma mm) 181 j v = VB h so ha le (upz mo j v) nb ma mm := by
  refine Prod.ext rfl (Prod.ext rfl (Prod.ext rfl (Prod.ext rfl (Prod.ext rfl (Prod.ext ?_ rfl)))))
  funext c k
  simp only [VB, sD, gD, up2, upz]
  by_cases hc : c = 181
  · subst hc
    simp
  · simp [hc]
theorem gR_VB (h : Hp) (so : Nat → Int32) (ha : Nat → Int32) (le : Nat → UInt64) (mo : Nat → UInt64) (nb : Nat → Int32) (ma : Nat → Int32) (mm : Nat → Int64) (b j : Nat) : gR (VB h so ha le mo nb ma mm) b j = gR h b j := rfl
theorem sR_VB (h : Hp) (so : Nat → Int32) (ha : Nat → Int32) (le : Nat → UInt64) (mo : Nat → UInt64) (nb : Nat → Int32) (ma : Nat → Int32) (mm : Nat → Int64) (b j : Nat) (v : Option Nat) : sR (VB h so ha le mo nb ma mm) b j v = VB (sR h b j v) so ha le mo nb ma mm := rfl
theorem VB_self (h : Hp) : VB h (gI h 178) (gI h 179) (gD h 180) (gD h 181) (gI h 182) (gI h 183) (gL h 184) = h := Prod.ext rfl (Prod.ext rfl (Prod.ext (funext fun c => funext fun k => by simp only [VB, gI];  repeat (split <;> first | rfl | (subst_vars; rfl) | skip)) (Prod.ext (funext fun c => funext fun k => by simp only [VB, gL];  repeat (split <;> first | rfl | (subst_vars; rfl) | skip)) (Prod.ext rfl (Prod.ext (funext fun c => funext fun k => by simp only [VB, gD];  repeat (split <;> first | rfl | (subst_vars; rfl) | skip)) rfl)))))
theorem FX_VB (h : Hp) (so : Nat → Int32) (ha : Nat → Int32) (le : Nat → UInt64) (mo : Nat → UInt64) (nb : Nat → Int32) (ma : Nat → Int32) (mm : Nat → Int64) (H : FX h) : FX (VB h so ha le mo nb ma mm) := FX_of H rfl rfl rfl (fun b k hb => gI_VB h so ha le mo nb ma mm b k (Nat.ne_of_lt (Nat.lt_of_lt_of_le hb (by decide))) (Nat.ne_of_lt (Nat.lt_of_lt_of_le hb (by decide))) (Nat.ne_of_lt (Nat.lt_of_lt_of_le hb (by decide))) (Nat.ne_of_lt (Nat.lt_of_lt_of_le hb (by decide))))

theorem NB_VB (h : Hp) (so ha : Nat → Int32) (le mo : Nat → UInt64) (nb ma : Nat → Int32) (mm : Nat → Int64) (f : Nat → Int32) : NB (VB h so ha le mo nb ma mm) f = VB h so ha le mo f ma mm := by
  refine Prod.ext rfl (Prod.ext rfl (Prod.ext ?_ rfl))
  funext x k
  simp only [NB, VB, gI]
  by_cases h1 : x = 182
  · subst h1; rfl
  · rw [if_neg h1]
    by_cases h2 : x = 178
    · subst h2; rfl
    · rw [if_neg h2, if_neg h2]
      by_cases h3 : x = 179
      · subst h3; rfl
      · rw [if_neg h3, if_neg h3, if_neg h1, if_neg h1]
