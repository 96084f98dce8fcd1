/-! PROG m5: texts and tokens -/
set_option maxRecDepth 100000
def ML (h : Hp) (nw : Int32) (bg : Int32) (wr : Int32) : Hp := (h.1, h.2.1, (fun b j => if b = 170 then (if j = 145 then nw else if j = 147 then bg else if j = 148 then wr else gI h b j) else gI h b j), h.2.2.2.1, h.2.2.2.2.1, h.2.2.2.2.2.1, h.2.2.2.2.2.2)
theorem nx_ML (h : Hp) (nw : Int32) (bg : Int32) (wr : Int32) : nx (ML h nw bg wr) = nx h := rfl
theorem nc_ML (h : Hp) (nw : Int32) (bg : Int32) (wr : Int32) : nc (ML h nw bg wr) = nc h := rfl
theorem ns_ML (h : Hp) (nw : Int32) (bg : Int32) (wr : Int32) : ns (ML h nw bg wr) = ns h := rfl
theorem kd_ML (h : Hp) (nw : Int32) (bg : Int32) (wr : Int32) (b : Nat) : kd (ML h nw bg wr) b = kd h b := rfl
theorem gI_ML_170_145 (h : Hp) (nw : Int32) (bg : Int32) (wr : Int32) : gI (ML h nw bg wr) 170 145 = nw := rfl
theorem gI_ML_170_147 (h : Hp) (nw : Int32) (bg : Int32) (wr : Int32) : gI (ML h nw bg wr) 170 147 = bg := rfl
theorem gI_ML_170_148 (h : Hp) (nw : Int32) (bg : Int32) (wr : Int32) : gI (ML h nw bg wr) 170 148 = wr := rfl
theorem gI_ML (h : Hp) (nw : Int32) (bg : Int32) (wr : Int32) (b j : Nat) (h170 : b ≠ 170) : gI (ML h nw bg wr) b j = gI h b j := by
  show (if _ then _ else _) = _
  rw [if_neg h170]
theorem sI_ML (h : Hp) (nw : Int32) (bg : Int32) (wr : Int32) (b j : Nat) (v : Int32) (h170 : b ≠ 170) : sI (ML h nw bg wr) b j v = ML (sI h b j v) nw bg wr := by
  refine Prod.ext rfl (Prod.ext rfl (Prod.ext ?_ rfl))
  funext c k
  simp only [ML, sI, gI, up2]
  by_cases hc : c = b
  · subst hc
    simp [h170]
  · simp [hc]
theorem sI_ML_170_145 (h : Hp) (nw : Int32) (bg : Int32) (wr : Int32) (v : Int32) : sI (ML h nw bg wr) 170 145 v = ML h v bg wr := by
  refine Prod.ext rfl (Prod.ext rfl (Prod.ext ?_ rfl))
  funext c k
  simp only [ML, sI, gI, up2]
  by_cases hc : c = 170
  · subst hc
    by_cases hk : k = 145
    · subst hk; simp
    · simp [hk]
  · simp [hc]
theorem sI_ML_170_147 (h : Hp) (nw : Int32) (bg : Int32) (wr : Int32) (v : Int32) : sI (ML h nw bg wr) 170 147 v = ML h nw v wr := by
  refine Prod.ext rfl (Prod.ext rfl (Prod.ext ?_ rfl))
  funext c k
  simp only [ML, sI, gI, up2]
  by_cases hc : c = 170
  · subst hc
    by_cases hk : k = 147
    · subst hk; simp
    · simp [hk]
  · simp [hc]
theorem sI_ML_170_148 (h : Hp) (nw : Int32) (bg : Int32) (wr : Int32) (v : Int32) : sI (ML h nw bg wr) 170 148 v = ML h nw bg v := by
  refine Prod.ext rfl (Prod.ext rfl (Prod.ext ?_ rfl))
  funext c k
  simp only [ML, sI, gI, up2]
  by_cases hc : c = 170
  · subst hc
    by_cases hk : k = 148
    · subst hk; simp
    · simp [hk]
  · simp [hc]
theorem gL_ML (h : Hp) (nw : Int32) (bg : Int32) (wr : Int32) (b j : Nat) : gL (ML h nw bg wr) b j = gL h b j := rfl
theorem sL_ML (h : Hp) (nw : Int32) (bg : Int32) (wr : Int32) (b j : Nat) (v : Int64) : sL (ML h nw bg wr) b j v = ML (sL h b j v) nw bg wr := rfl
theorem gF_ML (h : Hp) (nw : Int32) (bg : Int32) (wr : Int32) (b j : Nat) : gF (ML h nw bg wr) b j = gF h b j := rfl
theorem sF_ML (h : Hp) (nw : Int32) (bg : Int32) (wr : Int32) (b j : Nat) (v : UInt32) : sF (ML h nw bg wr) b j v = ML (sF h b j v) nw bg wr := rfl
theorem gD_ML (h : Hp) (nw : Int32) (bg : Int32) (wr : Int32) (b j : Nat) : gD (ML h nw bg wr) b j = gD h b j := rfl
theorem sD_ML (h : Hp) (nw : Int32) (bg : Int32) (wr : Int32) (b j : Nat) (v : UInt64) : sD (ML h nw bg wr) b j v = ML (sD h b j v) nw bg wr := rfl
theorem gR_ML (h : Hp) (nw : Int32) (bg : Int32) (wr : Int32) (b j : Nat) : gR (ML h nw bg wr) b j = gR h b j := rfl
theorem sR_ML (h : Hp) (nw : Int32) (bg : Int32) (wr : Int32) (b j : Nat) (v : Option Nat) : sR (ML h nw bg wr) b j v = ML (sR h b j v) nw bg wr := rfl
theorem ML_self (h : Hp) : ML h (gI h 170 145) (gI h 170 147) (gI h 170 148) = h := Prod.ext rfl (Prod.ext rfl (Prod.ext (funext fun c => funext fun k => by simp only [ML, gI];  repeat (split <;> first | rfl | (subst_vars; rfl) | skip)) (Prod.ext rfl (Prod.ext rfl (Prod.ext rfl rfl)))))
theorem FX_ML (h : Hp) (nw : Int32) (bg : Int32) (wr : Int32) (H : FX h) : FX (ML h nw bg wr) := FX_of H rfl rfl rfl (fun b k hb => gI_ML h nw bg wr b k (Nat.ne_of_lt (Nat.lt_of_lt_of_le hb (by decide))))

/-- whether token i is a text -/
def mTx (t : Nat → Int32) (n i j : Nat) : Bool := decide ((tks t n i).2.1 = 2 ∨ (tks t n i).2.1 = 5) && isWn t (tks t n i).1 ((tks t n i).2.2.1 - (tks t n i).1) j
theorem lx_w2 (t : Nat → Int32) (n p : Nat) (h : (lx t n p).1 = 2) : p < n ∧ isL (t p) = true ∧ p < (lx t n p).2.1 ∧ (lx t n p).2.1 ≤ n ∧ ∃ v, wdS t p ((lx t n p).2.1 - p) 37 0 = some v ∧ (lx t n p).2.2.1 = some (i3 v) := by
  have k0 : ∀ {a : Nat} {x : Nat × Option Int32 × Option (UInt64 × Bool)}, ((a, x) : Lx).1 = 2 → a = 2 := fun h => h
  unfold lx at h ⊢
  split at h
  · exact absurd (k0 h) (by decide)
  · rename_i h1
    rw [if_neg h1]
    split at h
    · rename_i h2
      rw [if_pos h2]
      split at h
      · exact absurd (k0 h) (by decide)
      · rename_i h3
        rw [if_neg h3]
        have g1 := scn_ge (fun q => isL (bAt t n q) || isD (bAt t n q)) (n - (p + 1)) (p + 1)
        have g2 := scn_le (fun q => isL (bAt t n q) || isD (bAt t n q)) (n - p) p
        have eQ : scn (fun q => isL (bAt t n q) || isD (bAt t n q)) (n - p) p = scn (fun q => isL (bAt t n q) || isD (bAt t n q)) (n - (p + 1)) (p + 1) := by
          rw [show n - p = (n - (p + 1)) + 1 by omega, scn_s]
          exact if_pos (by show (isL (bAt t n p) || _) = true; rw [show bAt t n p = t p from if_pos (by omega), h2]; rfl)
        cases hw : wdS t p (scn (fun q => isL (bAt t n q) || isD (bAt t n q)) (n - p) p - p) 37 0 with
        | none => rw [hw] at h; exact absurd (k0 h) (by decide)
        | some v => exact ⟨by omega, h2, by show p < scn _ _ _; omega, by show scn _ _ _ ≤ n; omega, v, hw, rfl⟩
    · split at h
      · have h9 := k0 h
        split at h9 <;> exact absurd h9 (by decide)
      · split at h
        · have h9 := k0 h
          split at h9 <;> exact absurd h9 (by decide)
        · have h9 := k0 h
          split at h9 <;> exact absurd h9 (by decide)
theorem lx_s5 (t : Nat → Int32) (n p : Nat) (h : (lx t n p).1 = 5) : p < n ∧ isL (t p) = false ∧ (lx t n p).2.2.1 = some (sgC (t p) (bAt t n (p + 1))) ∧ (lx t n p).2.1 = if 255 < sgC (t p) (bAt t n (p + 1)) then p + 2 else p + 1 := by
  have k0 : ∀ {a : Nat} {x : Nat × Option Int32 × Option (UInt64 × Bool)}, ((a, x) : Lx).1 = 5 → a = 5 := fun h => h
  unfold lx at h ⊢
  split at h
  · exact absurd (k0 h) (by decide)
  · rename_i h1
    rw [if_neg h1]
    split at h
    · split at h
      · exact absurd (k0 h) (by decide)
      · split at h <;> exact absurd (k0 h) (by decide)
    · rename_i h2
      rw [if_neg h2]
      split at h
      · have h9 := k0 h
        split at h9 <;> exact absurd h9 (by decide)
      · rename_i h3
        rw [if_neg h3]
        split at h
        · have h9 := k0 h
          split at h9 <;> exact absurd h9 (by decide)
        · rename_i h4
          rw [if_neg h4]
          exact ⟨by omega, Bool.eq_false_iff.mpr h2, rfl, rfl⟩
theorem wdS_is (t : Nat → Int32) (p m : Nat) : ∀ f v w, wdS t p m f v = some w → isWn t p m w = true := by
  intro f
  induction f with
  | zero => intro v w h; cases h
  | succ f ih =>
    intro v w h
    rw [wdS] at h
    split at h
    · rename_i hw; cases h; exact hw
    · exact ih _ _ h
theorem sB_inj : ∀ v, v < 37 → ∀ j, j < 37 → (sBy v).length = (sBy j).length → (∀ k, k < (sBy v).length → (sBy v).getD k 0 = (sBy j).getD k 0) → v = j := by decide +kernel
theorem sB_let : ∀ v, v < 37 → 0 < (sBy v).length ∧ isL ((sBy v).getD 0 0) = true := by decide +kernel
theorem sgC_cases (c d : Int32) : (sgC c d = 256 ∧ c = 60 ∧ d = 61) ∨ (sgC c d = 257 ∧ c = 62 ∧ d = 61) ∨ (sgC c d = 258 ∧ c = 33 ∧ d = 61) ∨ (sgC c d = 259 ∧ c = 45 ∧ d = 62) ∨ (sgC c d = c ∧ ¬ (c = 60 ∧ d = 61) ∧ ¬ (c = 62 ∧ d = 61) ∧ ¬ (c = 33 ∧ d = 61) ∧ ¬ (c = 45 ∧ d = 62)) := by
  unfold sgC
  by_cases a1 : c = 60 ∧ d = 61
  · rw [if_pos a1]; exact Or.inl ⟨rfl, a1⟩
  rw [if_neg a1]
  by_cases a2 : c = 62 ∧ d = 61
  · rw [if_pos a2]; exact Or.inr (Or.inl ⟨rfl, a2⟩)
  rw [if_neg a2]
  by_cases a3 : c = 33 ∧ d = 61
  · rw [if_pos a3]; exact Or.inr (Or.inr (Or.inl ⟨rfl, a3⟩))
  rw [if_neg a3]
  by_cases a4 : c = 45 ∧ d = 62
  · rw [if_pos a4]; exact Or.inr (Or.inr (Or.inr (Or.inl ⟨rfl, a4⟩)))
  rw [if_neg a4]
  exact Or.inr (Or.inr (Or.inr (Or.inr ⟨rfl, a1, a2, a3, a4⟩)))
theorem tC_of {t : Nat → Int32} {n i : Nat} {c : Int32} (h : (tks t n i).2.2.2.1 = some c) : tC (tkOf t n) i = c := by
  have e : tC (tkOf t n) i = (tks t n i).2.2.2.1.getD 0 := rfl
  rw [e, h]
  rfl
theorem byte_lt {v : Int32} (hv : v.toInt8.toInt32 = v) : v.toInt < 128 := by
  obtain ⟨m, hm, e⟩ := byte_rep hv
  have : ∀ m, m < 256 → (Int8.ofNat m).toInt32.toInt < 128 := by decide +kernel
  rw [e]
  exact this m hm
theorem mTx_w {t : Nat → Int32} {n i j : Nat} (hj : j < 37) : mTx t n i j = isW (tkOf t n) (i3 j) i := by
  unfold mTx isW
  have k2 : tK (tkOf t n) i = (tks t n i).2.1 := rfl
  rw [k2]
  by_cases h2 : (tks t n i).2.1 = 2
  · have h2' := h2
    rw [tks_lx] at h2'
    obtain ⟨b1, b2, b3, b4, v, b5, b6⟩ := lx_w2 t n _ h2'
    rw [← tks_lx] at b3 b4 b5 b6
    have hw := wdS_is _ _ _ _ _ _ b5
    have hv37 := wdS_lt _ _ _ _ _ _ b5
    rw [decide_eq_true (Or.inl h2), Bool.true_and, tC_of b6]
    by_cases e : v = j
    · subst e
      rw [hw, decide_eq_true ⟨h2, rfl⟩]
    · rw [decide_eq_false (fun h9 => e ((i3_inj (by omega) (by omega)).mp h9.2)), Bool.eq_false_iff]
      intro h9
      apply e
      obtain ⟨w1, w2⟩ := (isWn_iff _ _ _ _).mp hw
      obtain ⟨w3, w4⟩ := (isWn_iff _ _ _ _).mp h9
      exact sB_inj v (by omega) j hj (w1.trans w3.symm) (fun k hk => (w2 k (by omega)).symm.trans (w4 k (by omega)))
  · rw [decide_eq_false (fun h9 : _ ∧ _ => h2 h9.1)]
    by_cases h5 : (tks t n i).2.1 = 5
    · have h5' := h5
      rw [tks_lx] at h5'
      obtain ⟨b1, b2, b3, b4⟩ := lx_s5 t n _ h5'
      rw [Bool.and_eq_false_iff]
      right
      rw [Bool.eq_false_iff]
      intro h9
      obtain ⟨w3, w4⟩ := (isWn_iff _ _ _ _).mp h9
      have := sB_let j hj
      have e := w4 0 (by omega)
      rw [Nat.add_zero] at e
      rw [e, this.2] at b2
      cases b2
    · rw [decide_eq_false (fun h9 => h9.elim h2 h5), Bool.false_and]
theorem mTx_s1 {t : Nat → Int32} {n i j : Nat} (hv : ∀ k, (t k).toInt8.toInt32 = t k) {c : Int32} (hl : (sBy j).length = 1) (h0 : (sBy j).getD 0 0 = c) (hc : isL c = false) (hc2 : c.toInt < 256) : mTx t n i j = isS (tkOf t n) c i := by
  unfold mTx isS
  have k2 : tK (tkOf t n) i = (tks t n i).2.1 := rfl
  rw [k2]
  by_cases h5 : (tks t n i).2.1 = 5
  · have h5' := h5
    rw [tks_lx] at h5'
    obtain ⟨b1, b2, b3, b4⟩ := lx_s5 t n _ h5'
    rw [← tks_lx] at b3 b4
    rw [decide_eq_true (Or.inr h5), Bool.true_and, tC_of b3, Bool.eq_iff_iff, decide_eq_true_iff, isWn_iff, hl]
    have hb := byte_lt (hv (tks t n i).1)
    have z : (255 : Int32).toInt = 255 := rfl
    by_cases h255 : 255 < sgC (t (tks t n i).1) (bAt t n ((tks t n i).1 + 1))
    · rw [b4, if_pos h255]
      constructor
      · intro h9; omega
      · intro h9
        rw [lt_i, h9.2] at h255
        omega
    · rw [b4, if_neg h255]
      have es : sgC (t (tks t n i).1) (bAt t n ((tks t n i).1 + 1)) = t (tks t n i).1 := by
        rcases sgC_cases (t (tks t n i).1) (bAt t n ((tks t n i).1 + 1)) with h | h | h | h | h
        · rw [h.1] at h255; exact absurd (by decide) h255
        · rw [h.1] at h255; exact absurd (by decide) h255
        · rw [h.1] at h255; exact absurd (by decide) h255
        · rw [h.1] at h255; exact absurd (by decide) h255
        · exact h.1
      rw [es]
      constructor
      · intro h9
        have := h9.2 0 (by omega)
        rw [Nat.add_zero, h0] at this
        exact ⟨h5, this⟩
      · intro h9
        refine ⟨by omega, fun k hk => ?_⟩
        have : k = 0 := by omega
        subst this
        rw [Nat.add_zero, h0]
        exact h9.2
  · rw [decide_eq_false (fun h9 : _ ∧ _ => h5 h9.1)]
    by_cases h2 : (tks t n i).2.1 = 2
    · have h2' := h2
      rw [tks_lx] at h2'
      obtain ⟨b1, b2, b3, b4, v, b5, b6⟩ := lx_w2 t n _ h2'
      rw [Bool.and_eq_false_iff]
      right
      rw [Bool.eq_false_iff]
      intro h9
      obtain ⟨w3, w4⟩ := (isWn_iff _ _ _ _).mp h9
      have e := w4 0 (by omega)
      rw [Nat.add_zero, h0] at e
      rw [e, hc] at b2
      cases b2
    · rw [decide_eq_false (fun h9 => h9.elim h2 h5), Bool.false_and]
theorem mTx_s2 {t : Nat → Int32} {n i j : Nat} (hv : ∀ k, (t k).toInt8.toInt32 = t k) {x y K : Int32} (hl : (sBy j).length = 2) (h0 : (sBy j).getD 0 0 = x) (h1 : (sBy j).getD 1 0 = y) (hc : isL x = false) (hK : 255 < K) (hy : y ≠ 0) (hk : ∀ c d : Int32, c.toInt < 128 → (sgC c d = K ↔ c = x ∧ d = y)) : mTx t n i j = isS (tkOf t n) K i := by
  unfold mTx isS
  have k2 : tK (tkOf t n) i = (tks t n i).2.1 := rfl
  rw [k2]
  by_cases h5 : (tks t n i).2.1 = 5
  · have h5' := h5
    rw [tks_lx] at h5'
    obtain ⟨b1, b2, b3, b4⟩ := lx_s5 t n _ h5'
    rw [← tks_lx] at b3 b4
    have hb := byte_lt (hv (tks t n i).1)
    have hk2 := hk (t (tks t n i).1) (bAt t n ((tks t n i).1 + 1)) hb
    rw [decide_eq_true (Or.inr h5), Bool.true_and, tC_of b3, Bool.eq_iff_iff, decide_eq_true_iff, isWn_iff, hl, hk2]
    by_cases hkk : sgC (t (tks t n i).1) (bAt t n ((tks t n i).1 + 1)) = K
    · obtain ⟨g1, g2⟩ := hk2.mp hkk
      have hn : (tks t n i).1 + 1 < n := by
        rcases Nat.lt_or_ge ((tks t n i).1 + 1) n with h8 | h8
        · exact h8
        · have : bAt t n ((tks t n i).1 + 1) = 0 := if_neg (by omega)
          exact absurd (g2.symm.trans this) hy
      rw [b4, hkk, if_pos hK]
      refine ⟨fun _ => ⟨h5, g1, g2⟩, fun _ => ⟨by omega, fun k hk => ?_⟩⟩
      have : k = 0 ∨ k = 1 := by omega
      rcases this with rfl | rfl
      · rw [Nat.add_zero, h0]; exact g1
      · rw [h1, ← g2]; exact (if_pos hn).symm
    · constructor
      · intro h9
        exfalso
        apply hkk
        rw [hk2]
        have e0 := h9.2 0 (by omega)
        have e1 := h9.2 1 (by omega)
        rw [Nat.add_zero, h0] at e0
        rw [h1] at e1
        refine ⟨e0, ?_⟩
        have hl2 := h9.1
        rw [b4] at hl2
        by_cases h255 : 255 < sgC (t (tks t n i).1) (bAt t n ((tks t n i).1 + 1))
        · by_cases hn : (tks t n i).1 + 1 < n
          · rw [← e1]; exact if_pos hn
          · have eb : bAt t n ((tks t n i).1 + 1) = 0 := if_neg hn
            rw [eb] at h255
            rcases sgC_cases (t (tks t n i).1) 0 with h | h | h | h | h
            · exact absurd h.2.2 (by decide)
            · exact absurd h.2.2 (by decide)
            · exact absurd h.2.2 (by decide)
            · exact absurd h.2.2 (by decide)
            · rw [h.1, lt_i] at h255
              have z : (255 : Int32).toInt = 255 := rfl
              omega
        · rw [if_neg h255] at hl2
          omega
      · intro h9
        exact absurd (hk2.mpr ⟨h9.2.1, h9.2.2⟩) hkk
  · rw [decide_eq_false (fun h9 : _ ∧ _ => h5 h9.1)]
    by_cases h2 : (tks t n i).2.1 = 2
    · have h2' := h2
      rw [tks_lx] at h2'
      obtain ⟨b1, b2, b3, b4, v, b5, b6⟩ := lx_w2 t n _ h2'
      rw [Bool.and_eq_false_iff]
      right
      rw [Bool.eq_false_iff]
      intro h9
      obtain ⟨w3, w4⟩ := (isWn_iff _ _ _ _).mp h9
      have e := w4 0 (by omega)
      rw [Nat.add_zero, h0] at e
      rw [e, hc] at b2
      cases b2
    · rw [decide_eq_false (fun h9 => h9.elim h2 h5), Bool.false_and]
theorem sgK_256 (c d : Int32) (hc : c.toInt < 128) : sgC c d = 256 ↔ c = 60 ∧ d = 61 := by
  rcases sgC_cases c d with h | h | h | h | h
  · exact ⟨fun _ => h.2, fun _ => h.1⟩
  · exact ⟨fun h9 => absurd (h.1.symm.trans h9) (by decide), fun h9 => absurd (h.2.1.symm.trans h9.1) (by decide)⟩
  · exact ⟨fun h9 => absurd (h.1.symm.trans h9) (by decide), fun h9 => absurd (h.2.1.symm.trans h9.1) (by decide)⟩
  · exact ⟨fun h9 => absurd (h.1.symm.trans h9) (by decide), fun h9 => absurd (h.2.1.symm.trans h9.1) (by decide)⟩
  · refine ⟨fun h9 => ?_, fun h9 => absurd h9 h.2.1⟩
    rw [h.1] at h9
    rw [h9] at hc
    exact absurd hc (by decide)
theorem sgK_257 (c d : Int32) (hc : c.toInt < 128) : sgC c d = 257 ↔ c = 62 ∧ d = 61 := by
  rcases sgC_cases c d with h | h | h | h | h
  · exact ⟨fun h9 => absurd (h.1.symm.trans h9) (by decide), fun h9 => absurd (h.2.1.symm.trans h9.1) (by decide)⟩
  · exact ⟨fun _ => h.2, fun _ => h.1⟩
  · exact ⟨fun h9 => absurd (h.1.symm.trans h9) (by decide), fun h9 => absurd (h.2.1.symm.trans h9.1) (by decide)⟩
  · exact ⟨fun h9 => absurd (h.1.symm.trans h9) (by decide), fun h9 => absurd (h.2.1.symm.trans h9.1) (by decide)⟩
  · refine ⟨fun h9 => ?_, fun h9 => absurd h9 h.2.2.1⟩
    rw [h.1] at h9
    rw [h9] at hc
    exact absurd hc (by decide)
theorem sgK_258 (c d : Int32) (hc : c.toInt < 128) : sgC c d = 258 ↔ c = 33 ∧ d = 61 := by
  rcases sgC_cases c d with h | h | h | h | h
  · exact ⟨fun h9 => absurd (h.1.symm.trans h9) (by decide), fun h9 => absurd (h.2.1.symm.trans h9.1) (by decide)⟩
  · exact ⟨fun h9 => absurd (h.1.symm.trans h9) (by decide), fun h9 => absurd (h.2.1.symm.trans h9.1) (by decide)⟩
  · exact ⟨fun _ => h.2, fun _ => h.1⟩
  · exact ⟨fun h9 => absurd (h.1.symm.trans h9) (by decide), fun h9 => absurd (h.2.1.symm.trans h9.1) (by decide)⟩
  · refine ⟨fun h9 => ?_, fun h9 => absurd h9 h.2.2.2.1⟩
    rw [h.1] at h9
    rw [h9] at hc
    exact absurd hc (by decide)
theorem sgK_259 (c d : Int32) (hc : c.toInt < 128) : sgC c d = 259 ↔ c = 45 ∧ d = 62 := by
  rcases sgC_cases c d with h | h | h | h | h
  · exact ⟨fun h9 => absurd (h.1.symm.trans h9) (by decide), fun h9 => absurd (h.2.1.symm.trans h9.1) (by decide)⟩
  · exact ⟨fun h9 => absurd (h.1.symm.trans h9) (by decide), fun h9 => absurd (h.2.1.symm.trans h9.1) (by decide)⟩
  · exact ⟨fun h9 => absurd (h.1.symm.trans h9) (by decide), fun h9 => absurd (h.2.1.symm.trans h9.1) (by decide)⟩
  · exact ⟨fun _ => h.2, fun _ => h.1⟩
  · refine ⟨fun h9 => ?_, fun h9 => absurd h9 h.2.2.2.2⟩
    rw [h.1] at h9
    rw [h9] at hc
    exact absurd hc (by decide)
theorem mKI_36 : ∀ k, k ≤ 6 → ((mKI k = 3) ↔ k = 2) ∧ ((mKI k = 6) ↔ k = 5) ∧ ((mKI k = 2) ↔ k = 1) ∧ ((mKI k = 4) ↔ k = 3) ∧ ((mKI k = 5) ↔ k = 4) := by decide
theorem tks_k6 (t : Nat → Int32) (n i : Nat) : (tks t n i).2.1 ≤ 6 := by rw [tks_lx]; exact lx_kind t n _
/-- a word or a sign ends behind its begin, within the text -/
theorem tks_se {t : Nat → Int32} (hv : ∀ k, (t k).toInt8.toInt32 = t k) {n i : Nat} (h : (tks t n i).2.1 = 2 ∨ (tks t n i).2.1 = 5) : (tks t n i).1 < (tks t n i).2.2.1 ∧ (tks t n i).2.2.1 ≤ n ∧ (tks t n i).1 < n := by
  rw [tks_lx] at h
  rw [tks_lx]
  rcases h with h | h
  · obtain ⟨b1, b2, b3, b4, v, b5, b6⟩ := lx_w2 t n _ h
    exact ⟨b3, b4, b1⟩
  · obtain ⟨b1, b2, b3, b4⟩ := lx_s5 t n _ h
    rw [b4]
    split
    · rename_i h255
      refine ⟨by omega, ?_, b1⟩
      rcases Nat.lt_or_ge ((tks t n i).1 + 1) n with h8 | h8
      · omega
      · exfalso
        have eb : bAt t n ((tks t n i).1 + 1) = 0 := if_neg (by omega)
        rw [eb] at h255
        rcases sgC_cases (t (tks t n i).1) 0 with h | h | h | h | h
        · exact absurd h.2.2 (by decide)
        · exact absurd h.2.2 (by decide)
        · exact absurd h.2.2 (by decide)
        · exact absurd h.2.2 (by decide)
        · rw [h.1, lt_i] at h255
          have z : (255 : Int32).toInt = 255 := rfl
          have := byte_lt (hv (tks t n i).1)
          omega
    · exact ⟨by omega, by omega, b1⟩
theorem is_loop {h : Hp} (H : FX h) {n L r i j : Nat} (K : MTK h n L) (w : Nat) (hr : r = 10 + 2 * j) (hj : j < 61) (hi : i ≤ L) (bg wr : Int32) (hb : (tks (gI h 171) n i).1 + (sBy j).length ≤ 6000) : ∀ f k, k + f = (sBy j).length → ev (w + 90) M_X13_is 57 [(0, .ref 170), (1, .ref r), (2, .int (i3 k))] [] (ML h (i3 i) bg wr) = some (.inl (some (.int (b2i (allF (gI h 171) (fun k => (sBy j).getD k 0) (tks (gI h 171) n i).1 f k)))), ML h (i3 i) bg wr) := by
  obtain ⟨k1, k2, k3, k4, k5, k6, k7⟩ := K
  have HM : FX (ML h (i3 i) bg wr) := FX_ML h _ _ _ H
  have hl := fun w => w_len_r w HM hr hj
  have kt := kd_txt H hr hj
  obtain ⟨t1, t2, t3⟩ := k5 i hi
  have e1 := inB_i3 (i := i) (n := 6002) (by omega) (by decide)
  have e2 := i3_nat (n := i) (by omega)
  intro f
  induction f with
  | zero =>
    intro k hk
    have e0 : ¬ (i3 k < i3 (sBy j).length) := by rw [i3_lt (by omega) (by omega)]; omega
    rw [ev_at (M := M_X13_is) dX13_is_57]
    simp only [ev_at (M := M_X13_is) dX13_is_0, ev_at (M := M_X13_is) dX13_is_1, ev_at (M := M_X13_is) dX13_is_4, ev_at (M := M_X13_is) dX13_is_5, ev_at (M := M_X13_is) dX13_is_8, ev_at (M := M_X13_is) dX13_is_9, ev_at (M := M_X13_is) dX13_is_10, ev_at (M := M_X13_is) dX13_is_13, ev_at (M := M_X13_is) dX13_is_14, ev_at (M := M_X13_is) dX13_is_17, ev_at (M := M_X13_is) dX13_is_18, ev_at (M := M_X13_is) dX13_is_21, ev_at (M := M_X13_is) dX13_is_22, ev_at (M := M_X13_is) dX13_is_24, ev_at (M := M_X13_is) dX13_is_27, ev_at (M := M_X13_is) dX13_is_28, ev_at (M := M_X13_is) dX13_is_31, ev_at (M := M_X13_is) dX13_is_32, ev_at (M := M_X13_is) dX13_is_35, ev_at (M := M_X13_is) dX13_is_36, ev_at (M := M_X13_is) dX13_is_37, ev_at (M := M_X13_is) dX13_is_40, ev_at (M := M_X13_is) dX13_is_41, ev_at (M := M_X13_is) dX13_is_44, ev_at (M := M_X13_is) dX13_is_45, ev_at (M := M_X13_is) dX13_is_46, ev_at (M := M_X13_is) dX13_is_47, ev_at (M := M_X13_is) dX13_is_50, ev_at (M := M_X13_is) dX13_is_53, ev_at (M := M_X13_is) dX13_is_54, ev_at (M := M_X13_is) dX13_is_55, ev_at (M := M_X13_is) dX13_is_56, ev_at (M := M_X13_is) dX13_is_58, ev_at (M := M_X13_is) dX13_is_59, ev_at (M := M_X13_is) dX13_is_62, ev_at (M := M_X13_is) dX13_is_65, ev_at (M := M_X13_is) dX13_is_66, ev_at (M := M_X13_is) dX13_is_69, ev_at (M := M_X13_is) dX13_is_70, ev_at (M := M_X13_is) dX13_is_73, ev_at (M := M_X13_is) dX13_is_74, ev_at (M := M_X13_is) dX13_is_77, ev_at (M := M_X13_is) dX13_is_78, ev_at (M := M_X13_is) dX13_is_79, ev_at (M := M_X13_is) dX13_is_80, ev_at (M := M_X13_is) dX13_is_81, ev_at (M := M_X13_is) dX13_is_82, ev_at (M := M_X13_is) dX13_is_83, ev_at (M := M_X13_is) dX13_is_86, ev_at (M := M_X13_is) dX13_is_89, ev_at (M := M_X13_is) dX13_is_90, ev_at (M := M_X13_is) dX13_is_91, ev_at (M := M_X13_is) dX13_is_94, ev_at (M := M_X13_is) dX13_is_97, ev_at (M := M_X13_is) dX13_is_98, x_aload_n, x_baload, x_bipush, x_getfield, x_goto, x_iadd, x_iaload, x_iconst, x_if_icmp, x_iinc, x_iload_n, x_invokevirtual, x_ireturn, x_istore_n, x_isub, fT_43_274, fT_43_67, fT_43_71, fT_43_74, fT_43_78, mV_43_266, mV_43_270, o_X13_is, r_X13_is, l_X13_is, h_X13_is, cont_go, cont_rt, cont_th, cont_cal, cont_none, cont_ite, aftE_v, aftE_0, aftE_x, aftE_none, aftE_ite, hdk_h, hdk_0, kLd, kS1, kS2, kInc, goB, kIf, kIf2, kNul, kTab, ldK, ariK, kGet, kPut, kPuts, goO, kALd, kPutI, kPutL, kPutF, kPutD, kPutA, wI, wB, wC, wS, kLen, kNewa, kNewA, kNew, kNews, kNewX, kCast, kInst, calS, kStat, calV, nulT, kVirt, kRetI, kRetL, kRetF, kRetD, kRetA, kRet0, kThr, kSpc, calI, kStt, kNat, kCpy, tI_, tL_, tF_, tD_, tA_n, tA_r, tC1_i, tC1_f, tC1_r, tC2_l, tC2_d, tA_rf, lg_nil, lg_cons, lin_nil, lin_cons, lf1_nil, lf1_cons, lf2_nil, lf2_cons, ls1, ls2, lent_nil, lent_cons, cat_int, cat_long, cat_float, cat_double, cat_null, cat_ref, cat_rf, rf_some, rf_none, f4_0, f4_1, f4_2, f4_3, popN_0, popN_s, wds_nil, wds_cons, asc_nil, asc_cons, pI_c, pII_c, pL_c, pLL_c, pLI_c, pF_c, pFF_c, pD_c, pDD_c, mapc_some, mapc_none, mapc_ite, sdup_c, spop_c, sdupx1_c, sdup2_c, br1_eq, br1_ne, br1_lt, br1_ge, br1_gt, br1_le, br2_eq, br2_ne, br2_lt, br2_ge, br2_gt, br2_le, tgt, tgOk, hfd, gI_sI, gI_sL, gI_sF, gI_sD, gI_sR, gL_sI, gL_sL, gL_sF, gL_sD, gL_sR, gF_sI, gF_sL, gF_sF, gF_sD, gF_sR, gD_sI, gD_sL, gD_sF, gD_sD, gD_sR, gR_sI, gR_sL, gR_sF, gR_sD, gR_sR, gI_alo, gL_alo, gF_alo, gD_alo, gR_alo, kd_sI, kd_sL, kd_sF, kd_sD, kd_sR, nx_sI, nx_sL, nx_sF, nx_sD, nx_sR, nc_sI, nc_sL, nc_sF, nc_sD, nc_sR, ns_sI, ns_sL, ns_sF, ns_sD, ns_sR, kd_alo, nx_alo, nc_alo, ns_alo, narO_0, narO_1, narO_2, narO_3, narO_4, vF_0, vF_1, vF_2, vF_3, vF_4, vF_5, vF_6, vF_7, vF_8, stF_int, stF_long, stF_float, stF_double, stF_null, stF_ref, stF_rf, Nat.reduceAdd, Nat.reduceSub, Nat.reduceMul, Nat.reduceEqDiff, Nat.reduceBEq, Nat.reduceLeDiff, Nat.reduceBneDiff, Int.reduceAdd, Int.reduceSub, Int.reduceNeg, Int.reduceToNat, Int.reduceLE, Int.reduceLT, Int.cast_ofNat_Int, reduceIte, ite_true, ite_false, and_true, true_and, and_false, false_and, and_self, or_true, true_or, or_false, false_or, decide_true, decide_false, decide_eq_true_eq, eq_self, not_true_eq_false, not_false_eq_true, reduceCtorEq, Bool.false_eq_true, Nat.reduceLT, Int.ofNat_zero, Int.natCast_zero, hF_41_139, hF_41_142, hF_41_143, hF_41_144, hF_41_145, bp_6, ic_0, ic_1, ic_3, ct_204, ct_300, ct_200, ct_201, ct_301, ct_202, ct_203, ct_205, ct_206, ct_207, ct_210, ct_211, ct_212, ct_213, ct_214, ct_215, ct_216, ct_217, ct_218, ia_200, ia_201, ia_202, ia_203, ia_204, ia_205, ia_206, ia_207, ia_210, ia_211, ia_212, ia_213, ia_214, ia_215, ia_216, ia_217, ia_218, ia_300, ia_301, ne_eq, okd, okf, dc0, dc1, Fin.isValue, Fin.reduceEq, lit_eq, lit_m1, lit_m2, nb_0, nb_1, Nat.reduceMod, Int32.reduceLT, Int32.reduceAdd, Int32.reduceSub, Int32.reduceMul, kArT, kd_ML, kt, hl, e0, allF, b2i_t]
  | succ f ih =>
    intro k hk
    have e0 : i3 k < i3 (sBy j).length := by rw [i3_lt (by omega) (by omega)]; omega
    have hc := fun w => w_chr_r w HM hr hj (k := k) (by omega)
    have e3 := inB_i3 (i := (tks (gI h 171) n i).1 + k) (n := 6000) (by omega) (by decide)
    have e4 := i3_nat (n := (tks (gI h 171) n i).1 + k) (by omega)
    rw [ev_at (M := M_X13_is) dX13_is_57]
    by_cases hq : gI h 171 ((tks (gI h 171) n i).1 + k) = (sBy j).getD k 0
    · have e5 : allF (gI h 171) (fun k => (sBy j).getD k 0) (tks (gI h 171) n i).1 (f + 1) k = allF (gI h 171) (fun k => (sBy j).getD k 0) (tks (gI h 171) n i).1 f (k + 1) := by
        show (decide _ && _) = _
        rw [decide_eq_true hq]; rfl
      rw [e5, ← ih (k + 1) (by omega)]
      simp only [ev_at (M := M_X13_is) dX13_is_0, ev_at (M := M_X13_is) dX13_is_1, ev_at (M := M_X13_is) dX13_is_4, ev_at (M := M_X13_is) dX13_is_5, ev_at (M := M_X13_is) dX13_is_8, ev_at (M := M_X13_is) dX13_is_9, ev_at (M := M_X13_is) dX13_is_10, ev_at (M := M_X13_is) dX13_is_13, ev_at (M := M_X13_is) dX13_is_14, ev_at (M := M_X13_is) dX13_is_17, ev_at (M := M_X13_is) dX13_is_18, ev_at (M := M_X13_is) dX13_is_21, ev_at (M := M_X13_is) dX13_is_22, ev_at (M := M_X13_is) dX13_is_24, ev_at (M := M_X13_is) dX13_is_27, ev_at (M := M_X13_is) dX13_is_28, ev_at (M := M_X13_is) dX13_is_31, ev_at (M := M_X13_is) dX13_is_32, ev_at (M := M_X13_is) dX13_is_35, ev_at (M := M_X13_is) dX13_is_36, ev_at (M := M_X13_is) dX13_is_37, ev_at (M := M_X13_is) dX13_is_40, ev_at (M := M_X13_is) dX13_is_41, ev_at (M := M_X13_is) dX13_is_44, ev_at (M := M_X13_is) dX13_is_45, ev_at (M := M_X13_is) dX13_is_46, ev_at (M := M_X13_is) dX13_is_47, ev_at (M := M_X13_is) dX13_is_50, ev_at (M := M_X13_is) dX13_is_53, ev_at (M := M_X13_is) dX13_is_54, ev_at (M := M_X13_is) dX13_is_55, ev_at (M := M_X13_is) dX13_is_56, ev_at (M := M_X13_is) dX13_is_58, ev_at (M := M_X13_is) dX13_is_59, ev_at (M := M_X13_is) dX13_is_62, ev_at (M := M_X13_is) dX13_is_65, ev_at (M := M_X13_is) dX13_is_66, ev_at (M := M_X13_is) dX13_is_69, ev_at (M := M_X13_is) dX13_is_70, ev_at (M := M_X13_is) dX13_is_73, ev_at (M := M_X13_is) dX13_is_74, ev_at (M := M_X13_is) dX13_is_77, ev_at (M := M_X13_is) dX13_is_78, ev_at (M := M_X13_is) dX13_is_79, ev_at (M := M_X13_is) dX13_is_80, ev_at (M := M_X13_is) dX13_is_81, ev_at (M := M_X13_is) dX13_is_82, ev_at (M := M_X13_is) dX13_is_83, ev_at (M := M_X13_is) dX13_is_86, ev_at (M := M_X13_is) dX13_is_89, ev_at (M := M_X13_is) dX13_is_90, ev_at (M := M_X13_is) dX13_is_91, ev_at (M := M_X13_is) dX13_is_94, ev_at (M := M_X13_is) dX13_is_97, ev_at (M := M_X13_is) dX13_is_98, x_aload_n, x_baload, x_bipush, x_getfield, x_goto, x_iadd, x_iaload, x_iconst, x_if_icmp, x_iinc, x_iload_n, x_invokevirtual, x_ireturn, x_istore_n, x_isub, fT_43_274, fT_43_67, fT_43_71, fT_43_74, fT_43_78, mV_43_266, mV_43_270, o_X13_is, r_X13_is, l_X13_is, h_X13_is, cont_go, cont_rt, cont_th, cont_cal, cont_none, cont_ite, aftE_v, aftE_0, aftE_x, aftE_none, aftE_ite, hdk_h, hdk_0, kLd, kS1, kS2, kInc, goB, kIf, kIf2, kNul, kTab, ldK, ariK, kGet, kPut, kPuts, goO, kALd, kPutI, kPutL, kPutF, kPutD, kPutA, wI, wB, wC, wS, kLen, kNewa, kNewA, kNew, kNews, kNewX, kCast, kInst, calS, kStat, calV, nulT, kVirt, kRetI, kRetL, kRetF, kRetD, kRetA, kRet0, kThr, kSpc, calI, kStt, kNat, kCpy, tI_, tL_, tF_, tD_, tA_n, tA_r, tC1_i, tC1_f, tC1_r, tC2_l, tC2_d, tA_rf, lg_nil, lg_cons, lin_nil, lin_cons, lf1_nil, lf1_cons, lf2_nil, lf2_cons, ls1, ls2, lent_nil, lent_cons, cat_int, cat_long, cat_float, cat_double, cat_null, cat_ref, cat_rf, rf_some, rf_none, f4_0, f4_1, f4_2, f4_3, popN_0, popN_s, wds_nil, wds_cons, asc_nil, asc_cons, pI_c, pII_c, pL_c, pLL_c, pLI_c, pF_c, pFF_c, pD_c, pDD_c, mapc_some, mapc_none, mapc_ite, sdup_c, spop_c, sdupx1_c, sdup2_c, br1_eq, br1_ne, br1_lt, br1_ge, br1_gt, br1_le, br2_eq, br2_ne, br2_lt, br2_ge, br2_gt, br2_le, tgt, tgOk, hfd, gI_sI, gI_sL, gI_sF, gI_sD, gI_sR, gL_sI, gL_sL, gL_sF, gL_sD, gL_sR, gF_sI, gF_sL, gF_sF, gF_sD, gF_sR, gD_sI, gD_sL, gD_sF, gD_sD, gD_sR, gR_sI, gR_sL, gR_sF, gR_sD, gR_sR, gI_alo, gL_alo, gF_alo, gD_alo, gR_alo, kd_sI, kd_sL, kd_sF, kd_sD, kd_sR, nx_sI, nx_sL, nx_sF, nx_sD, nx_sR, nc_sI, nc_sL, nc_sF, nc_sD, nc_sR, ns_sI, ns_sL, ns_sF, ns_sD, ns_sR, kd_alo, nx_alo, nc_alo, ns_alo, narO_0, narO_1, narO_2, narO_3, narO_4, vF_0, vF_1, vF_2, vF_3, vF_4, vF_5, vF_6, vF_7, vF_8, stF_int, stF_long, stF_float, stF_double, stF_null, stF_ref, stF_rf, Nat.reduceAdd, Nat.reduceSub, Nat.reduceMul, Nat.reduceEqDiff, Nat.reduceBEq, Nat.reduceLeDiff, Nat.reduceBneDiff, Int.reduceAdd, Int.reduceSub, Int.reduceNeg, Int.reduceToNat, Int.reduceLE, Int.reduceLT, Int.cast_ofNat_Int, reduceIte, ite_true, ite_false, and_true, true_and, and_false, false_and, and_self, or_true, true_or, or_false, false_or, decide_true, decide_false, decide_eq_true_eq, eq_self, not_true_eq_false, not_false_eq_true, reduceCtorEq, Bool.false_eq_true, Nat.reduceLT, Int.ofNat_zero, Int.natCast_zero, hF_41_139, hF_41_142, hF_41_143, hF_41_144, hF_41_145, bp_6, ic_0, ic_1, ic_3, ct_204, ct_300, ct_200, ct_201, ct_301, ct_202, ct_203, ct_205, ct_206, ct_207, ct_210, ct_211, ct_212, ct_213, ct_214, ct_215, ct_216, ct_217, ct_218, ia_200, ia_201, ia_202, ia_203, ia_204, ia_205, ia_206, ia_207, ia_210, ia_211, ia_212, ia_213, ia_214, ia_215, ia_216, ia_217, ia_218, ia_300, ia_301, ne_eq, okd, okf, dc0, dc1, Fin.isValue, Fin.reduceEq, lit_eq, lit_m1, lit_m2, nb_0, nb_1, Nat.reduceMod, Int32.reduceLT, Int32.reduceAdd, Int32.reduceSub, Int32.reduceMul, kArT, nx_ML, nc_ML, ns_ML, kd_ML, gI_ML_170_145, sI_ML_170_145, gI_ML_170_147, sI_ML_170_147, gI_ML_170_148, sI_ML_170_148, gI_ML, gL_ML, sL_ML, gF_ML, sF_ML, gD_ML, sD_ML, gR_ML, sR_ML, fk_170 H, fr_170_139 H, fk_171 H, fr_170_142 H, fk_172 H, fr_170_143 H, fk_173 H, fr_170_144 H, fk_174 H, kt, hl, hc, e0, e1, e2, e3, e4, t1, i3_add, hq, i3_succ]
    · have e5 : allF (gI h 171) (fun k => (sBy j).getD k 0) (tks (gI h 171) n i).1 (f + 1) k = false := by
        show (decide _ && _) = _
        rw [decide_eq_false hq]; rfl
      rw [e5]
      simp only [ev_at (M := M_X13_is) dX13_is_0, ev_at (M := M_X13_is) dX13_is_1, ev_at (M := M_X13_is) dX13_is_4, ev_at (M := M_X13_is) dX13_is_5, ev_at (M := M_X13_is) dX13_is_8, ev_at (M := M_X13_is) dX13_is_9, ev_at (M := M_X13_is) dX13_is_10, ev_at (M := M_X13_is) dX13_is_13, ev_at (M := M_X13_is) dX13_is_14, ev_at (M := M_X13_is) dX13_is_17, ev_at (M := M_X13_is) dX13_is_18, ev_at (M := M_X13_is) dX13_is_21, ev_at (M := M_X13_is) dX13_is_22, ev_at (M := M_X13_is) dX13_is_24, ev_at (M := M_X13_is) dX13_is_27, ev_at (M := M_X13_is) dX13_is_28, ev_at (M := M_X13_is) dX13_is_31, ev_at (M := M_X13_is) dX13_is_32, ev_at (M := M_X13_is) dX13_is_35, ev_at (M := M_X13_is) dX13_is_36, ev_at (M := M_X13_is) dX13_is_37, ev_at (M := M_X13_is) dX13_is_40, ev_at (M := M_X13_is) dX13_is_41, ev_at (M := M_X13_is) dX13_is_44, ev_at (M := M_X13_is) dX13_is_45, ev_at (M := M_X13_is) dX13_is_46, ev_at (M := M_X13_is) dX13_is_47, ev_at (M := M_X13_is) dX13_is_50, ev_at (M := M_X13_is) dX13_is_53, ev_at (M := M_X13_is) dX13_is_54, ev_at (M := M_X13_is) dX13_is_55, ev_at (M := M_X13_is) dX13_is_56, ev_at (M := M_X13_is) dX13_is_58, ev_at (M := M_X13_is) dX13_is_59, ev_at (M := M_X13_is) dX13_is_62, ev_at (M := M_X13_is) dX13_is_65, ev_at (M := M_X13_is) dX13_is_66, ev_at (M := M_X13_is) dX13_is_69, ev_at (M := M_X13_is) dX13_is_70, ev_at (M := M_X13_is) dX13_is_73, ev_at (M := M_X13_is) dX13_is_74, ev_at (M := M_X13_is) dX13_is_77, ev_at (M := M_X13_is) dX13_is_78, ev_at (M := M_X13_is) dX13_is_79, ev_at (M := M_X13_is) dX13_is_80, ev_at (M := M_X13_is) dX13_is_81, ev_at (M := M_X13_is) dX13_is_82, ev_at (M := M_X13_is) dX13_is_83, ev_at (M := M_X13_is) dX13_is_86, ev_at (M := M_X13_is) dX13_is_89, ev_at (M := M_X13_is) dX13_is_90, ev_at (M := M_X13_is) dX13_is_91, ev_at (M := M_X13_is) dX13_is_94, ev_at (M := M_X13_is) dX13_is_97, ev_at (M := M_X13_is) dX13_is_98, x_aload_n, x_baload, x_bipush, x_getfield, x_goto, x_iadd, x_iaload, x_iconst, x_if_icmp, x_iinc, x_iload_n, x_invokevirtual, x_ireturn, x_istore_n, x_isub, fT_43_274, fT_43_67, fT_43_71, fT_43_74, fT_43_78, mV_43_266, mV_43_270, o_X13_is, r_X13_is, l_X13_is, h_X13_is, cont_go, cont_rt, cont_th, cont_cal, cont_none, cont_ite, aftE_v, aftE_0, aftE_x, aftE_none, aftE_ite, hdk_h, hdk_0, kLd, kS1, kS2, kInc, goB, kIf, kIf2, kNul, kTab, ldK, ariK, kGet, kPut, kPuts, goO, kALd, kPutI, kPutL, kPutF, kPutD, kPutA, wI, wB, wC, wS, kLen, kNewa, kNewA, kNew, kNews, kNewX, kCast, kInst, calS, kStat, calV, nulT, kVirt, kRetI, kRetL, kRetF, kRetD, kRetA, kRet0, kThr, kSpc, calI, kStt, kNat, kCpy, tI_, tL_, tF_, tD_, tA_n, tA_r, tC1_i, tC1_f, tC1_r, tC2_l, tC2_d, tA_rf, lg_nil, lg_cons, lin_nil, lin_cons, lf1_nil, lf1_cons, lf2_nil, lf2_cons, ls1, ls2, lent_nil, lent_cons, cat_int, cat_long, cat_float, cat_double, cat_null, cat_ref, cat_rf, rf_some, rf_none, f4_0, f4_1, f4_2, f4_3, popN_0, popN_s, wds_nil, wds_cons, asc_nil, asc_cons, pI_c, pII_c, pL_c, pLL_c, pLI_c, pF_c, pFF_c, pD_c, pDD_c, mapc_some, mapc_none, mapc_ite, sdup_c, spop_c, sdupx1_c, sdup2_c, br1_eq, br1_ne, br1_lt, br1_ge, br1_gt, br1_le, br2_eq, br2_ne, br2_lt, br2_ge, br2_gt, br2_le, tgt, tgOk, hfd, gI_sI, gI_sL, gI_sF, gI_sD, gI_sR, gL_sI, gL_sL, gL_sF, gL_sD, gL_sR, gF_sI, gF_sL, gF_sF, gF_sD, gF_sR, gD_sI, gD_sL, gD_sF, gD_sD, gD_sR, gR_sI, gR_sL, gR_sF, gR_sD, gR_sR, gI_alo, gL_alo, gF_alo, gD_alo, gR_alo, kd_sI, kd_sL, kd_sF, kd_sD, kd_sR, nx_sI, nx_sL, nx_sF, nx_sD, nx_sR, nc_sI, nc_sL, nc_sF, nc_sD, nc_sR, ns_sI, ns_sL, ns_sF, ns_sD, ns_sR, kd_alo, nx_alo, nc_alo, ns_alo, narO_0, narO_1, narO_2, narO_3, narO_4, vF_0, vF_1, vF_2, vF_3, vF_4, vF_5, vF_6, vF_7, vF_8, stF_int, stF_long, stF_float, stF_double, stF_null, stF_ref, stF_rf, Nat.reduceAdd, Nat.reduceSub, Nat.reduceMul, Nat.reduceEqDiff, Nat.reduceBEq, Nat.reduceLeDiff, Nat.reduceBneDiff, Int.reduceAdd, Int.reduceSub, Int.reduceNeg, Int.reduceToNat, Int.reduceLE, Int.reduceLT, Int.cast_ofNat_Int, reduceIte, ite_true, ite_false, and_true, true_and, and_false, false_and, and_self, or_true, true_or, or_false, false_or, decide_true, decide_false, decide_eq_true_eq, eq_self, not_true_eq_false, not_false_eq_true, reduceCtorEq, Bool.false_eq_true, Nat.reduceLT, Int.ofNat_zero, Int.natCast_zero, hF_41_139, hF_41_142, hF_41_143, hF_41_144, hF_41_145, bp_6, ic_0, ic_1, ic_3, ct_204, ct_300, ct_200, ct_201, ct_301, ct_202, ct_203, ct_205, ct_206, ct_207, ct_210, ct_211, ct_212, ct_213, ct_214, ct_215, ct_216, ct_217, ct_218, ia_200, ia_201, ia_202, ia_203, ia_204, ia_205, ia_206, ia_207, ia_210, ia_211, ia_212, ia_213, ia_214, ia_215, ia_216, ia_217, ia_218, ia_300, ia_301, ne_eq, okd, okf, dc0, dc1, Fin.isValue, Fin.reduceEq, lit_eq, lit_m1, lit_m2, nb_0, nb_1, Nat.reduceMod, Int32.reduceLT, Int32.reduceAdd, Int32.reduceSub, Int32.reduceMul, kArT, nx_ML, nc_ML, ns_ML, kd_ML, gI_ML_170_145, sI_ML_170_145, gI_ML_170_147, sI_ML_170_147, gI_ML_170_148, sI_ML_170_148, gI_ML, gL_ML, sL_ML, gF_ML, sF_ML, gD_ML, sD_ML, gR_ML, sR_ML, fk_170 H, fr_170_139 H, fk_171 H, fr_170_142 H, fk_172 H, fr_170_143 H, fk_173 H, fr_170_144 H, fk_174 H, kt, hl, hc, e0, e1, e2, e3, e4, t1, i3_add, hq, b2i_f]
theorem w_is {h : Hp} (H : FX h) {n L r i j : Nat} (K : MTK h n L) (w : Nat) (hr : r = 10 + 2 * j) (hj : j < 61) (hi : i ≤ L) (bg wr : Int32) : evM (w + 112) 430 [.ref 170, .ref r] (ML h (i3 i) bg wr) = some (.inl (some (.int (b2i (mTx (gI h 171) n i j)))), ML h (i3 i) bg wr) := by
  obtain ⟨k1, k2, k3, k4, k5, k6, k7⟩ := K
  have HM : FX (ML h (i3 i) bg wr) := FX_ML h _ _ _ H
  have hl := fun w => w_len_r w HM hr hj
  have kt := kd_txt H hr hj
  have hlj : (sBy j).length < 1000 := by
    have : ∀ j, j < 61 → (sBy j).length < 1000 := by decide +kernel
    exact this j hj
  obtain ⟨t1, t2, t3⟩ := k5 i hi
  have e1 := inB_i3 (i := i) (n := 6002) (by omega) (by decide)
  have e2 := i3_nat (n := i) (by omega)
  obtain ⟨m3, m6, _⟩ := mKI_36 _ (tks_k6 (gI h 171) n i)
  rw [evM_to M_X13_is 90 22 _ (by rfl) (by rfl) (by rfl) (Nat.le_of_ble_eq_true rfl) (by rfl)]
  unfold mTx
  by_cases hk : (tks (gI h 171) n i).2.1 = 2 ∨ (tks (gI h 171) n i).2.1 = 5
  · obtain ⟨s1, s2, s3⟩ := tks_se k4 hk
    have g6 : (tks (gI h 171) n i).2.1 ≠ 6 := by omega
    have t4 := t3 g6
    have es : i3 (tks (gI h 171) n i).2.2.1 - i3 (tks (gI h 171) n i).1 = i3 ((tks (gI h 171) n i).2.2.1 - (tks (gI h 171) n i).1) := i3_sub (by omega) (by omega)
    have el : (i3 ((tks (gI h 171) n i).2.2.1 - (tks (gI h 171) n i).1) = i3 (sBy j).length) ↔ (sBy j).length = (tks (gI h 171) n i).2.2.1 - (tks (gI h 171) n i).1 := by rw [i3_inj (by omega) (by omega)]; omega
    rw [decide_eq_true hk, Bool.true_and]
    unfold isWn areB
    by_cases hlen : (sBy j).length = (tks (gI h 171) n i).2.2.1 - (tks (gI h 171) n i).1
    · have hlp := is_loop H ⟨k1, k2, k3, k4, k5, k6, k7⟩ w hr hj hi bg wr (by omega) (sBy j).length 0 (by omega)
      rw [decide_eq_true hlen, Bool.true_and, ← hlp, i3_0]
      have el' := el.mpr hlen
      rcases hk with hk | hk
      · have m3' := m3.mpr hk
        simp only [ev_at (M := M_X13_is) dX13_is_0, ev_at (M := M_X13_is) dX13_is_1, ev_at (M := M_X13_is) dX13_is_4, ev_at (M := M_X13_is) dX13_is_5, ev_at (M := M_X13_is) dX13_is_8, ev_at (M := M_X13_is) dX13_is_9, ev_at (M := M_X13_is) dX13_is_10, ev_at (M := M_X13_is) dX13_is_13, ev_at (M := M_X13_is) dX13_is_14, ev_at (M := M_X13_is) dX13_is_17, ev_at (M := M_X13_is) dX13_is_18, ev_at (M := M_X13_is) dX13_is_21, ev_at (M := M_X13_is) dX13_is_22, ev_at (M := M_X13_is) dX13_is_24, ev_at (M := M_X13_is) dX13_is_27, ev_at (M := M_X13_is) dX13_is_28, ev_at (M := M_X13_is) dX13_is_31, ev_at (M := M_X13_is) dX13_is_32, ev_at (M := M_X13_is) dX13_is_35, ev_at (M := M_X13_is) dX13_is_36, ev_at (M := M_X13_is) dX13_is_37, ev_at (M := M_X13_is) dX13_is_40, ev_at (M := M_X13_is) dX13_is_41, ev_at (M := M_X13_is) dX13_is_44, ev_at (M := M_X13_is) dX13_is_45, ev_at (M := M_X13_is) dX13_is_46, ev_at (M := M_X13_is) dX13_is_47, ev_at (M := M_X13_is) dX13_is_50, ev_at (M := M_X13_is) dX13_is_53, ev_at (M := M_X13_is) dX13_is_54, ev_at (M := M_X13_is) dX13_is_55, ev_at (M := M_X13_is) dX13_is_56, ev_at (M := M_X13_is) dX13_is_58, ev_at (M := M_X13_is) dX13_is_59, ev_at (M := M_X13_is) dX13_is_62, ev_at (M := M_X13_is) dX13_is_65, ev_at (M := M_X13_is) dX13_is_66, ev_at (M := M_X13_is) dX13_is_69, ev_at (M := M_X13_is) dX13_is_70, ev_at (M := M_X13_is) dX13_is_73, ev_at (M := M_X13_is) dX13_is_74, ev_at (M := M_X13_is) dX13_is_77, ev_at (M := M_X13_is) dX13_is_78, ev_at (M := M_X13_is) dX13_is_79, ev_at (M := M_X13_is) dX13_is_80, ev_at (M := M_X13_is) dX13_is_81, ev_at (M := M_X13_is) dX13_is_82, ev_at (M := M_X13_is) dX13_is_83, ev_at (M := M_X13_is) dX13_is_86, ev_at (M := M_X13_is) dX13_is_89, ev_at (M := M_X13_is) dX13_is_90, ev_at (M := M_X13_is) dX13_is_91, ev_at (M := M_X13_is) dX13_is_94, ev_at (M := M_X13_is) dX13_is_97, ev_at (M := M_X13_is) dX13_is_98, x_aload_n, x_baload, x_bipush, x_getfield, x_goto, x_iadd, x_iaload, x_iconst, x_if_icmp, x_iinc, x_iload_n, x_invokevirtual, x_ireturn, x_istore_n, x_isub, fT_43_274, fT_43_67, fT_43_71, fT_43_74, fT_43_78, mV_43_266, mV_43_270, o_X13_is, r_X13_is, l_X13_is, h_X13_is, cont_go, cont_rt, cont_th, cont_cal, cont_none, cont_ite, aftE_v, aftE_0, aftE_x, aftE_none, aftE_ite, hdk_h, hdk_0, kLd, kS1, kS2, kInc, goB, kIf, kIf2, kNul, kTab, ldK, ariK, kGet, kPut, kPuts, goO, kALd, kPutI, kPutL, kPutF, kPutD, kPutA, wI, wB, wC, wS, kLen, kNewa, kNewA, kNew, kNews, kNewX, kCast, kInst, calS, kStat, calV, nulT, kVirt, kRetI, kRetL, kRetF, kRetD, kRetA, kRet0, kThr, kSpc, calI, kStt, kNat, kCpy, tI_, tL_, tF_, tD_, tA_n, tA_r, tC1_i, tC1_f, tC1_r, tC2_l, tC2_d, tA_rf, lg_nil, lg_cons, lin_nil, lin_cons, lf1_nil, lf1_cons, lf2_nil, lf2_cons, ls1, ls2, lent_nil, lent_cons, cat_int, cat_long, cat_float, cat_double, cat_null, cat_ref, cat_rf, rf_some, rf_none, f4_0, f4_1, f4_2, f4_3, popN_0, popN_s, wds_nil, wds_cons, asc_nil, asc_cons, pI_c, pII_c, pL_c, pLL_c, pLI_c, pF_c, pFF_c, pD_c, pDD_c, mapc_some, mapc_none, mapc_ite, sdup_c, spop_c, sdupx1_c, sdup2_c, br1_eq, br1_ne, br1_lt, br1_ge, br1_gt, br1_le, br2_eq, br2_ne, br2_lt, br2_ge, br2_gt, br2_le, tgt, tgOk, hfd, gI_sI, gI_sL, gI_sF, gI_sD, gI_sR, gL_sI, gL_sL, gL_sF, gL_sD, gL_sR, gF_sI, gF_sL, gF_sF, gF_sD, gF_sR, gD_sI, gD_sL, gD_sF, gD_sD, gD_sR, gR_sI, gR_sL, gR_sF, gR_sD, gR_sR, gI_alo, gL_alo, gF_alo, gD_alo, gR_alo, kd_sI, kd_sL, kd_sF, kd_sD, kd_sR, nx_sI, nx_sL, nx_sF, nx_sD, nx_sR, nc_sI, nc_sL, nc_sF, nc_sD, nc_sR, ns_sI, ns_sL, ns_sF, ns_sD, ns_sR, kd_alo, nx_alo, nc_alo, ns_alo, narO_0, narO_1, narO_2, narO_3, narO_4, vF_0, vF_1, vF_2, vF_3, vF_4, vF_5, vF_6, vF_7, vF_8, stF_int, stF_long, stF_float, stF_double, stF_null, stF_ref, stF_rf, Nat.reduceAdd, Nat.reduceSub, Nat.reduceMul, Nat.reduceEqDiff, Nat.reduceBEq, Nat.reduceLeDiff, Nat.reduceBneDiff, Int.reduceAdd, Int.reduceSub, Int.reduceNeg, Int.reduceToNat, Int.reduceLE, Int.reduceLT, Int.cast_ofNat_Int, reduceIte, ite_true, ite_false, and_true, true_and, and_false, false_and, and_self, or_true, true_or, or_false, false_or, decide_true, decide_false, decide_eq_true_eq, eq_self, not_true_eq_false, not_false_eq_true, reduceCtorEq, Bool.false_eq_true, Nat.reduceLT, Int.ofNat_zero, Int.natCast_zero, hF_41_139, hF_41_142, hF_41_143, hF_41_144, hF_41_145, bp_6, ic_0, ic_1, ic_3, ct_204, ct_300, ct_200, ct_201, ct_301, ct_202, ct_203, ct_205, ct_206, ct_207, ct_210, ct_211, ct_212, ct_213, ct_214, ct_215, ct_216, ct_217, ct_218, ia_200, ia_201, ia_202, ia_203, ia_204, ia_205, ia_206, ia_207, ia_210, ia_211, ia_212, ia_213, ia_214, ia_215, ia_216, ia_217, ia_218, ia_300, ia_301, ne_eq, okd, okf, dc0, dc1, Fin.isValue, Fin.reduceEq, lit_eq, lit_m1, lit_m2, nb_0, nb_1, Nat.reduceMod, Int32.reduceLT, Int32.reduceAdd, Int32.reduceSub, Int32.reduceMul, kArT, nx_ML, nc_ML, ns_ML, kd_ML, gI_ML_170_145, sI_ML_170_145, gI_ML_170_147, sI_ML_170_147, gI_ML_170_148, sI_ML_170_148, gI_ML, gL_ML, sL_ML, gF_ML, sF_ML, gD_ML, sD_ML, gR_ML, sR_ML, fk_170 H, fr_170_139 H, fk_171 H, fr_170_142 H, fk_172 H, fr_170_143 H, fk_173 H, fr_170_144 H, fk_174 H, kt, hl, e1, e2, t1, t2, t4, m3', es, el']
      · have m3' : ¬ mKI (tks (gI h 171) n i).2.1 = 3 := fun h9 => by have := m3.mp h9; omega
        have m6' := m6.mpr hk
        simp only [ev_at (M := M_X13_is) dX13_is_0, ev_at (M := M_X13_is) dX13_is_1, ev_at (M := M_X13_is) dX13_is_4, ev_at (M := M_X13_is) dX13_is_5, ev_at (M := M_X13_is) dX13_is_8, ev_at (M := M_X13_is) dX13_is_9, ev_at (M := M_X13_is) dX13_is_10, ev_at (M := M_X13_is) dX13_is_13, ev_at (M := M_X13_is) dX13_is_14, ev_at (M := M_X13_is) dX13_is_17, ev_at (M := M_X13_is) dX13_is_18, ev_at (M := M_X13_is) dX13_is_21, ev_at (M := M_X13_is) dX13_is_22, ev_at (M := M_X13_is) dX13_is_24, ev_at (M := M_X13_is) dX13_is_27, ev_at (M := M_X13_is) dX13_is_28, ev_at (M := M_X13_is) dX13_is_31, ev_at (M := M_X13_is) dX13_is_32, ev_at (M := M_X13_is) dX13_is_35, ev_at (M := M_X13_is) dX13_is_36, ev_at (M := M_X13_is) dX13_is_37, ev_at (M := M_X13_is) dX13_is_40, ev_at (M := M_X13_is) dX13_is_41, ev_at (M := M_X13_is) dX13_is_44, ev_at (M := M_X13_is) dX13_is_45, ev_at (M := M_X13_is) dX13_is_46, ev_at (M := M_X13_is) dX13_is_47, ev_at (M := M_X13_is) dX13_is_50, ev_at (M := M_X13_is) dX13_is_53, ev_at (M := M_X13_is) dX13_is_54, ev_at (M := M_X13_is) dX13_is_55, ev_at (M := M_X13_is) dX13_is_56, ev_at (M := M_X13_is) dX13_is_58, ev_at (M := M_X13_is) dX13_is_59, ev_at (M := M_X13_is) dX13_is_62, ev_at (M := M_X13_is) dX13_is_65, ev_at (M := M_X13_is) dX13_is_66, ev_at (M := M_X13_is) dX13_is_69, ev_at (M := M_X13_is) dX13_is_70, ev_at (M := M_X13_is) dX13_is_73, ev_at (M := M_X13_is) dX13_is_74, ev_at (M := M_X13_is) dX13_is_77, ev_at (M := M_X13_is) dX13_is_78, ev_at (M := M_X13_is) dX13_is_79, ev_at (M := M_X13_is) dX13_is_80, ev_at (M := M_X13_is) dX13_is_81, ev_at (M := M_X13_is) dX13_is_82, ev_at (M := M_X13_is) dX13_is_83, ev_at (M := M_X13_is) dX13_is_86, ev_at (M := M_X13_is) dX13_is_89, ev_at (M := M_X13_is) dX13_is_90, ev_at (M := M_X13_is) dX13_is_91, ev_at (M := M_X13_is) dX13_is_94, ev_at (M := M_X13_is) dX13_is_97, ev_at (M := M_X13_is) dX13_is_98, x_aload_n, x_baload, x_bipush, x_getfield, x_goto, x_iadd, x_iaload, x_iconst, x_if_icmp, x_iinc, x_iload_n, x_invokevirtual, x_ireturn, x_istore_n, x_isub, fT_43_274, fT_43_67, fT_43_71, fT_43_74, fT_43_78, mV_43_266, mV_43_270, o_X13_is, r_X13_is, l_X13_is, h_X13_is, cont_go, cont_rt, cont_th, cont_cal, cont_none, cont_ite, aftE_v, aftE_0, aftE_x, aftE_none, aftE_ite, hdk_h, hdk_0, kLd, kS1, kS2, kInc, goB, kIf, kIf2, kNul, kTab, ldK, ariK, kGet, kPut, kPuts, goO, kALd, kPutI, kPutL, kPutF, kPutD, kPutA, wI, wB, wC, wS, kLen, kNewa, kNewA, kNew, kNews, kNewX, kCast, kInst, calS, kStat, calV, nulT, kVirt, kRetI, kRetL, kRetF, kRetD, kRetA, kRet0, kThr, kSpc, calI, kStt, kNat, kCpy, tI_, tL_, tF_, tD_, tA_n, tA_r, tC1_i, tC1_f, tC1_r, tC2_l, tC2_d, tA_rf, lg_nil, lg_cons, lin_nil, lin_cons, lf1_nil, lf1_cons, lf2_nil, lf2_cons, ls1, ls2, lent_nil, lent_cons, cat_int, cat_long, cat_float, cat_double, cat_null, cat_ref, cat_rf, rf_some, rf_none, f4_0, f4_1, f4_2, f4_3, popN_0, popN_s, wds_nil, wds_cons, asc_nil, asc_cons, pI_c, pII_c, pL_c, pLL_c, pLI_c, pF_c, pFF_c, pD_c, pDD_c, mapc_some, mapc_none, mapc_ite, sdup_c, spop_c, sdupx1_c, sdup2_c, br1_eq, br1_ne, br1_lt, br1_ge, br1_gt, br1_le, br2_eq, br2_ne, br2_lt, br2_ge, br2_gt, br2_le, tgt, tgOk, hfd, gI_sI, gI_sL, gI_sF, gI_sD, gI_sR, gL_sI, gL_sL, gL_sF, gL_sD, gL_sR, gF_sI, gF_sL, gF_sF, gF_sD, gF_sR, gD_sI, gD_sL, gD_sF, gD_sD, gD_sR, gR_sI, gR_sL, gR_sF, gR_sD, gR_sR, gI_alo, gL_alo, gF_alo, gD_alo, gR_alo, kd_sI, kd_sL, kd_sF, kd_sD, kd_sR, nx_sI, nx_sL, nx_sF, nx_sD, nx_sR, nc_sI, nc_sL, nc_sF, nc_sD, nc_sR, ns_sI, ns_sL, ns_sF, ns_sD, ns_sR, kd_alo, nx_alo, nc_alo, ns_alo, narO_0, narO_1, narO_2, narO_3, narO_4, vF_0, vF_1, vF_2, vF_3, vF_4, vF_5, vF_6, vF_7, vF_8, stF_int, stF_long, stF_float, stF_double, stF_null, stF_ref, stF_rf, Nat.reduceAdd, Nat.reduceSub, Nat.reduceMul, Nat.reduceEqDiff, Nat.reduceBEq, Nat.reduceLeDiff, Nat.reduceBneDiff, Int.reduceAdd, Int.reduceSub, Int.reduceNeg, Int.reduceToNat, Int.reduceLE, Int.reduceLT, Int.cast_ofNat_Int, reduceIte, ite_true, ite_false, and_true, true_and, and_false, false_and, and_self, or_true, true_or, or_false, false_or, decide_true, decide_false, decide_eq_true_eq, eq_self, not_true_eq_false, not_false_eq_true, reduceCtorEq, Bool.false_eq_true, Nat.reduceLT, Int.ofNat_zero, Int.natCast_zero, hF_41_139, hF_41_142, hF_41_143, hF_41_144, hF_41_145, bp_6, ic_0, ic_1, ic_3, ct_204, ct_300, ct_200, ct_201, ct_301, ct_202, ct_203, ct_205, ct_206, ct_207, ct_210, ct_211, ct_212, ct_213, ct_214, ct_215, ct_216, ct_217, ct_218, ia_200, ia_201, ia_202, ia_203, ia_204, ia_205, ia_206, ia_207, ia_210, ia_211, ia_212, ia_213, ia_214, ia_215, ia_216, ia_217, ia_218, ia_300, ia_301, ne_eq, okd, okf, dc0, dc1, Fin.isValue, Fin.reduceEq, lit_eq, lit_m1, lit_m2, nb_0, nb_1, Nat.reduceMod, Int32.reduceLT, Int32.reduceAdd, Int32.reduceSub, Int32.reduceMul, kArT, nx_ML, nc_ML, ns_ML, kd_ML, gI_ML_170_145, sI_ML_170_145, gI_ML_170_147, sI_ML_170_147, gI_ML_170_148, sI_ML_170_148, gI_ML, gL_ML, sL_ML, gF_ML, sF_ML, gD_ML, sD_ML, gR_ML, sR_ML, fk_170 H, fr_170_139 H, fk_171 H, fr_170_142 H, fk_172 H, fr_170_143 H, fk_173 H, fr_170_144 H, fk_174 H, kt, hl, e1, e2, t1, t2, t4, m3', m6', es, el']
    · rw [decide_eq_false hlen, Bool.false_and]
      have el' : ¬ _ := fun h9 => hlen (el.mp h9)
      rcases hk with hk | hk
      · have m3' := m3.mpr hk
        simp only [ev_at (M := M_X13_is) dX13_is_0, ev_at (M := M_X13_is) dX13_is_1, ev_at (M := M_X13_is) dX13_is_4, ev_at (M := M_X13_is) dX13_is_5, ev_at (M := M_X13_is) dX13_is_8, ev_at (M := M_X13_is) dX13_is_9, ev_at (M := M_X13_is) dX13_is_10, ev_at (M := M_X13_is) dX13_is_13, ev_at (M := M_X13_is) dX13_is_14, ev_at (M := M_X13_is) dX13_is_17, ev_at (M := M_X13_is) dX13_is_18, ev_at (M := M_X13_is) dX13_is_21, ev_at (M := M_X13_is) dX13_is_22, ev_at (M := M_X13_is) dX13_is_24, ev_at (M := M_X13_is) dX13_is_27, ev_at (M := M_X13_is) dX13_is_28, ev_at (M := M_X13_is) dX13_is_31, ev_at (M := M_X13_is) dX13_is_32, ev_at (M := M_X13_is) dX13_is_35, ev_at (M := M_X13_is) dX13_is_36, ev_at (M := M_X13_is) dX13_is_37, ev_at (M := M_X13_is) dX13_is_40, ev_at (M := M_X13_is) dX13_is_41, ev_at (M := M_X13_is) dX13_is_44, ev_at (M := M_X13_is) dX13_is_45, ev_at (M := M_X13_is) dX13_is_46, ev_at (M := M_X13_is) dX13_is_47, ev_at (M := M_X13_is) dX13_is_50, ev_at (M := M_X13_is) dX13_is_53, ev_at (M := M_X13_is) dX13_is_54, ev_at (M := M_X13_is) dX13_is_55, ev_at (M := M_X13_is) dX13_is_56, ev_at (M := M_X13_is) dX13_is_58, ev_at (M := M_X13_is) dX13_is_59, ev_at (M := M_X13_is) dX13_is_62, ev_at (M := M_X13_is) dX13_is_65, ev_at (M := M_X13_is) dX13_is_66, ev_at (M := M_X13_is) dX13_is_69, ev_at (M := M_X13_is) dX13_is_70, ev_at (M := M_X13_is) dX13_is_73, ev_at (M := M_X13_is) dX13_is_74, ev_at (M := M_X13_is) dX13_is_77, ev_at (M := M_X13_is) dX13_is_78, ev_at (M := M_X13_is) dX13_is_79, ev_at (M := M_X13_is) dX13_is_80, ev_at (M := M_X13_is) dX13_is_81, ev_at (M := M_X13_is) dX13_is_82, ev_at (M := M_X13_is) dX13_is_83, ev_at (M := M_X13_is) dX13_is_86, ev_at (M := M_X13_is) dX13_is_89, ev_at (M := M_X13_is) dX13_is_90, ev_at (M := M_X13_is) dX13_is_91, ev_at (M := M_X13_is) dX13_is_94, ev_at (M := M_X13_is) dX13_is_97, ev_at (M := M_X13_is) dX13_is_98, x_aload_n, x_baload, x_bipush, x_getfield, x_goto, x_iadd, x_iaload, x_iconst, x_if_icmp, x_iinc, x_iload_n, x_invokevirtual, x_ireturn, x_istore_n, x_isub, fT_43_274, fT_43_67, fT_43_71, fT_43_74, fT_43_78, mV_43_266, mV_43_270, o_X13_is, r_X13_is, l_X13_is, h_X13_is, cont_go, cont_rt, cont_th, cont_cal, cont_none, cont_ite, aftE_v, aftE_0, aftE_x, aftE_none, aftE_ite, hdk_h, hdk_0, kLd, kS1, kS2, kInc, goB, kIf, kIf2, kNul, kTab, ldK, ariK, kGet, kPut, kPuts, goO, kALd, kPutI, kPutL, kPutF, kPutD, kPutA, wI, wB, wC, wS, kLen, kNewa, kNewA, kNew, kNews, kNewX, kCast, kInst, calS, kStat, calV, nulT, kVirt, kRetI, kRetL, kRetF, kRetD, kRetA, kRet0, kThr, kSpc, calI, kStt, kNat, kCpy, tI_, tL_, tF_, tD_, tA_n, tA_r, tC1_i, tC1_f, tC1_r, tC2_l, tC2_d, tA_rf, lg_nil, lg_cons, lin_nil, lin_cons, lf1_nil, lf1_cons, lf2_nil, lf2_cons, ls1, ls2, lent_nil, lent_cons, cat_int, cat_long, cat_float, cat_double, cat_null, cat_ref, cat_rf, rf_some, rf_none, f4_0, f4_1, f4_2, f4_3, popN_0, popN_s, wds_nil, wds_cons, asc_nil, asc_cons, pI_c, pII_c, pL_c, pLL_c, pLI_c, pF_c, pFF_c, pD_c, pDD_c, mapc_some, mapc_none, mapc_ite, sdup_c, spop_c, sdupx1_c, sdup2_c, br1_eq, br1_ne, br1_lt, br1_ge, br1_gt, br1_le, br2_eq, br2_ne, br2_lt, br2_ge, br2_gt, br2_le, tgt, tgOk, hfd, gI_sI, gI_sL, gI_sF, gI_sD, gI_sR, gL_sI, gL_sL, gL_sF, gL_sD, gL_sR, gF_sI, gF_sL, gF_sF, gF_sD, gF_sR, gD_sI, gD_sL, gD_sF, gD_sD, gD_sR, gR_sI, gR_sL, gR_sF, gR_sD, gR_sR, gI_alo, gL_alo, gF_alo, gD_alo, gR_alo, kd_sI, kd_sL, kd_sF, kd_sD, kd_sR, nx_sI, nx_sL, nx_sF, nx_sD, nx_sR, nc_sI, nc_sL, nc_sF, nc_sD, nc_sR, ns_sI, ns_sL, ns_sF, ns_sD, ns_sR, kd_alo, nx_alo, nc_alo, ns_alo, narO_0, narO_1, narO_2, narO_3, narO_4, vF_0, vF_1, vF_2, vF_3, vF_4, vF_5, vF_6, vF_7, vF_8, stF_int, stF_long, stF_float, stF_double, stF_null, stF_ref, stF_rf, Nat.reduceAdd, Nat.reduceSub, Nat.reduceMul, Nat.reduceEqDiff, Nat.reduceBEq, Nat.reduceLeDiff, Nat.reduceBneDiff, Int.reduceAdd, Int.reduceSub, Int.reduceNeg, Int.reduceToNat, Int.reduceLE, Int.reduceLT, Int.cast_ofNat_Int, reduceIte, ite_true, ite_false, and_true, true_and, and_false, false_and, and_self, or_true, true_or, or_false, false_or, decide_true, decide_false, decide_eq_true_eq, eq_self, not_true_eq_false, not_false_eq_true, reduceCtorEq, Bool.false_eq_true, Nat.reduceLT, Int.ofNat_zero, Int.natCast_zero, hF_41_139, hF_41_142, hF_41_143, hF_41_144, hF_41_145, bp_6, ic_0, ic_1, ic_3, ct_204, ct_300, ct_200, ct_201, ct_301, ct_202, ct_203, ct_205, ct_206, ct_207, ct_210, ct_211, ct_212, ct_213, ct_214, ct_215, ct_216, ct_217, ct_218, ia_200, ia_201, ia_202, ia_203, ia_204, ia_205, ia_206, ia_207, ia_210, ia_211, ia_212, ia_213, ia_214, ia_215, ia_216, ia_217, ia_218, ia_300, ia_301, ne_eq, okd, okf, dc0, dc1, Fin.isValue, Fin.reduceEq, lit_eq, lit_m1, lit_m2, nb_0, nb_1, Nat.reduceMod, Int32.reduceLT, Int32.reduceAdd, Int32.reduceSub, Int32.reduceMul, kArT, nx_ML, nc_ML, ns_ML, kd_ML, gI_ML_170_145, sI_ML_170_145, gI_ML_170_147, sI_ML_170_147, gI_ML_170_148, sI_ML_170_148, gI_ML, gL_ML, sL_ML, gF_ML, sF_ML, gD_ML, sD_ML, gR_ML, sR_ML, fk_170 H, fr_170_139 H, fk_171 H, fr_170_142 H, fk_172 H, fr_170_143 H, fk_173 H, fr_170_144 H, fk_174 H, kt, hl, e1, e2, t1, t2, t4, m3', es, el', b2i_f]
      · have m3' : ¬ mKI (tks (gI h 171) n i).2.1 = 3 := fun h9 => by have := m3.mp h9; omega
        have m6' := m6.mpr hk
        simp only [ev_at (M := M_X13_is) dX13_is_0, ev_at (M := M_X13_is) dX13_is_1, ev_at (M := M_X13_is) dX13_is_4, ev_at (M := M_X13_is) dX13_is_5, ev_at (M := M_X13_is) dX13_is_8, ev_at (M := M_X13_is) dX13_is_9, ev_at (M := M_X13_is) dX13_is_10, ev_at (M := M_X13_is) dX13_is_13, ev_at (M := M_X13_is) dX13_is_14, ev_at (M := M_X13_is) dX13_is_17, ev_at (M := M_X13_is) dX13_is_18, ev_at (M := M_X13_is) dX13_is_21, ev_at (M := M_X13_is) dX13_is_22, ev_at (M := M_X13_is) dX13_is_24, ev_at (M := M_X13_is) dX13_is_27, ev_at (M := M_X13_is) dX13_is_28, ev_at (M := M_X13_is) dX13_is_31, ev_at (M := M_X13_is) dX13_is_32, ev_at (M := M_X13_is) dX13_is_35, ev_at (M := M_X13_is) dX13_is_36, ev_at (M := M_X13_is) dX13_is_37, ev_at (M := M_X13_is) dX13_is_40, ev_at (M := M_X13_is) dX13_is_41, ev_at (M := M_X13_is) dX13_is_44, ev_at (M := M_X13_is) dX13_is_45, ev_at (M := M_X13_is) dX13_is_46, ev_at (M := M_X13_is) dX13_is_47, ev_at (M := M_X13_is) dX13_is_50, ev_at (M := M_X13_is) dX13_is_53, ev_at (M := M_X13_is) dX13_is_54, ev_at (M := M_X13_is) dX13_is_55, ev_at (M := M_X13_is) dX13_is_56, ev_at (M := M_X13_is) dX13_is_58, ev_at (M := M_X13_is) dX13_is_59, ev_at (M := M_X13_is) dX13_is_62, ev_at (M := M_X13_is) dX13_is_65, ev_at (M := M_X13_is) dX13_is_66, ev_at (M := M_X13_is) dX13_is_69, ev_at (M := M_X13_is) dX13_is_70, ev_at (M := M_X13_is) dX13_is_73, ev_at (M := M_X13_is) dX13_is_74, ev_at (M := M_X13_is) dX13_is_77, ev_at (M := M_X13_is) dX13_is_78, ev_at (M := M_X13_is) dX13_is_79, ev_at (M := M_X13_is) dX13_is_80, ev_at (M := M_X13_is) dX13_is_81, ev_at (M := M_X13_is) dX13_is_82, ev_at (M := M_X13_is) dX13_is_83, ev_at (M := M_X13_is) dX13_is_86, ev_at (M := M_X13_is) dX13_is_89, ev_at (M := M_X13_is) dX13_is_90, ev_at (M := M_X13_is) dX13_is_91, ev_at (M := M_X13_is) dX13_is_94, ev_at (M := M_X13_is) dX13_is_97, ev_at (M := M_X13_is) dX13_is_98, x_aload_n, x_baload, x_bipush, x_getfield, x_goto, x_iadd, x_iaload, x_iconst, x_if_icmp, x_iinc, x_iload_n, x_invokevirtual, x_ireturn, x_istore_n, x_isub, fT_43_274, fT_43_67, fT_43_71, fT_43_74, fT_43_78, mV_43_266, mV_43_270, o_X13_is, r_X13_is, l_X13_is, h_X13_is, cont_go, cont_rt, cont_th, cont_cal, cont_none, cont_ite, aftE_v, aftE_0, aftE_x, aftE_none, aftE_ite, hdk_h, hdk_0, kLd, kS1, kS2, kInc, goB, kIf, kIf2, kNul, kTab, ldK, ariK, kGet, kPut, kPuts, goO, kALd, kPutI, kPutL, kPutF, kPutD, kPutA, wI, wB, wC, wS, kLen, kNewa, kNewA, kNew, kNews, kNewX, kCast, kInst, calS, kStat, calV, nulT, kVirt, kRetI, kRetL, kRetF, kRetD, kRetA, kRet0, kThr, kSpc, calI, kStt, kNat, kCpy, tI_, tL_, tF_, tD_, tA_n, tA_r, tC1_i, tC1_f, tC1_r, tC2_l, tC2_d, tA_rf, lg_nil, lg_cons, lin_nil, lin_cons, lf1_nil, lf1_cons, lf2_nil, lf2_cons, ls1, ls2, lent_nil, lent_cons, cat_int, cat_long, cat_float, cat_double, cat_null, cat_ref, cat_rf, rf_some, rf_none, f4_0, f4_1, f4_2, f4_3, popN_0, popN_s, wds_nil, wds_cons, asc_nil, asc_cons, pI_c, pII_c, pL_c, pLL_c, pLI_c, pF_c, pFF_c, pD_c, pDD_c, mapc_some, mapc_none, mapc_ite, sdup_c, spop_c, sdupx1_c, sdup2_c, br1_eq, br1_ne, br1_lt, br1_ge, br1_gt, br1_le, br2_eq, br2_ne, br2_lt, br2_ge, br2_gt, br2_le, tgt, tgOk, hfd, gI_sI, gI_sL, gI_sF, gI_sD, gI_sR, gL_sI, gL_sL, gL_sF, gL_sD, gL_sR, gF_sI, gF_sL, gF_sF, gF_sD, gF_sR, gD_sI, gD_sL, gD_sF, gD_sD, gD_sR, gR_sI, gR_sL, gR_sF, gR_sD, gR_sR, gI_alo, gL_alo, gF_alo, gD_alo, gR_alo, kd_sI, kd_sL, kd_sF, kd_sD, kd_sR, nx_sI, nx_sL, nx_sF, nx_sD, nx_sR, nc_sI, nc_sL, nc_sF, nc_sD, nc_sR, ns_sI, ns_sL, ns_sF, ns_sD, ns_sR, kd_alo, nx_alo, nc_alo, ns_alo, narO_0, narO_1, narO_2, narO_3, narO_4, vF_0, vF_1, vF_2, vF_3, vF_4, vF_5, vF_6, vF_7, vF_8, stF_int, stF_long, stF_float, stF_double, stF_null, stF_ref, stF_rf, Nat.reduceAdd, Nat.reduceSub, Nat.reduceMul, Nat.reduceEqDiff, Nat.reduceBEq, Nat.reduceLeDiff, Nat.reduceBneDiff, Int.reduceAdd, Int.reduceSub, Int.reduceNeg, Int.reduceToNat, Int.reduceLE, Int.reduceLT, Int.cast_ofNat_Int, reduceIte, ite_true, ite_false, and_true, true_and, and_false, false_and, and_self, or_true, true_or, or_false, false_or, decide_true, decide_false, decide_eq_true_eq, eq_self, not_true_eq_false, not_false_eq_true, reduceCtorEq, Bool.false_eq_true, Nat.reduceLT, Int.ofNat_zero, Int.natCast_zero, hF_41_139, hF_41_142, hF_41_143, hF_41_144, hF_41_145, bp_6, ic_0, ic_1, ic_3, ct_204, ct_300, ct_200, ct_201, ct_301, ct_202, ct_203, ct_205, ct_206, ct_207, ct_210, ct_211, ct_212, ct_213, ct_214, ct_215, ct_216, ct_217, ct_218, ia_200, ia_201, ia_202, ia_203, ia_204, ia_205, ia_206, ia_207, ia_210, ia_211, ia_212, ia_213, ia_214, ia_215, ia_216, ia_217, ia_218, ia_300, ia_301, ne_eq, okd, okf, dc0, dc1, Fin.isValue, Fin.reduceEq, lit_eq, lit_m1, lit_m2, nb_0, nb_1, Nat.reduceMod, Int32.reduceLT, Int32.reduceAdd, Int32.reduceSub, Int32.reduceMul, kArT, nx_ML, nc_ML, ns_ML, kd_ML, gI_ML_170_145, sI_ML_170_145, gI_ML_170_147, sI_ML_170_147, gI_ML_170_148, sI_ML_170_148, gI_ML, gL_ML, sL_ML, gF_ML, sF_ML, gD_ML, sD_ML, gR_ML, sR_ML, fk_170 H, fr_170_139 H, fk_171 H, fr_170_142 H, fk_172 H, fr_170_143 H, fk_173 H, fr_170_144 H, fk_174 H, kt, hl, e1, e2, t1, t2, t4, m3', m6', es, el', b2i_f]
  · have m3' : ¬ mKI (tks (gI h 171) n i).2.1 = 3 := fun h9 => hk (Or.inl (m3.mp h9))
    have m6' : ¬ mKI (tks (gI h 171) n i).2.1 = 6 := fun h9 => hk (Or.inr (m6.mp h9))
    rw [decide_eq_false hk, Bool.false_and]
    simp only [ev_at (M := M_X13_is) dX13_is_0, ev_at (M := M_X13_is) dX13_is_1, ev_at (M := M_X13_is) dX13_is_4, ev_at (M := M_X13_is) dX13_is_5, ev_at (M := M_X13_is) dX13_is_8, ev_at (M := M_X13_is) dX13_is_9, ev_at (M := M_X13_is) dX13_is_10, ev_at (M := M_X13_is) dX13_is_13, ev_at (M := M_X13_is) dX13_is_14, ev_at (M := M_X13_is) dX13_is_17, ev_at (M := M_X13_is) dX13_is_18, ev_at (M := M_X13_is) dX13_is_21, ev_at (M := M_X13_is) dX13_is_22, ev_at (M := M_X13_is) dX13_is_24, ev_at (M := M_X13_is) dX13_is_27, ev_at (M := M_X13_is) dX13_is_28, ev_at (M := M_X13_is) dX13_is_31, ev_at (M := M_X13_is) dX13_is_32, ev_at (M := M_X13_is) dX13_is_35, ev_at (M := M_X13_is) dX13_is_36, ev_at (M := M_X13_is) dX13_is_37, ev_at (M := M_X13_is) dX13_is_40, ev_at (M := M_X13_is) dX13_is_41, ev_at (M := M_X13_is) dX13_is_44, ev_at (M := M_X13_is) dX13_is_45, ev_at (M := M_X13_is) dX13_is_46, ev_at (M := M_X13_is) dX13_is_47, ev_at (M := M_X13_is) dX13_is_50, ev_at (M := M_X13_is) dX13_is_53, ev_at (M := M_X13_is) dX13_is_54, ev_at (M := M_X13_is) dX13_is_55, ev_at (M := M_X13_is) dX13_is_56, ev_at (M := M_X13_is) dX13_is_58, ev_at (M := M_X13_is) dX13_is_59, ev_at (M := M_X13_is) dX13_is_62, ev_at (M := M_X13_is) dX13_is_65, ev_at (M := M_X13_is) dX13_is_66, ev_at (M := M_X13_is) dX13_is_69, ev_at (M := M_X13_is) dX13_is_70, ev_at (M := M_X13_is) dX13_is_73, ev_at (M := M_X13_is) dX13_is_74, ev_at (M := M_X13_is) dX13_is_77, ev_at (M := M_X13_is) dX13_is_78, ev_at (M := M_X13_is) dX13_is_79, ev_at (M := M_X13_is) dX13_is_80, ev_at (M := M_X13_is) dX13_is_81, ev_at (M := M_X13_is) dX13_is_82, ev_at (M := M_X13_is) dX13_is_83, ev_at (M := M_X13_is) dX13_is_86, ev_at (M := M_X13_is) dX13_is_89, ev_at (M := M_X13_is) dX13_is_90, ev_at (M := M_X13_is) dX13_is_91, ev_at (M := M_X13_is) dX13_is_94, ev_at (M := M_X13_is) dX13_is_97, ev_at (M := M_X13_is) dX13_is_98, x_aload_n, x_baload, x_bipush, x_getfield, x_goto, x_iadd, x_iaload, x_iconst, x_if_icmp, x_iinc, x_iload_n, x_invokevirtual, x_ireturn, x_istore_n, x_isub, fT_43_274, fT_43_67, fT_43_71, fT_43_74, fT_43_78, mV_43_266, mV_43_270, o_X13_is, r_X13_is, l_X13_is, h_X13_is, cont_go, cont_rt, cont_th, cont_cal, cont_none, cont_ite, aftE_v, aftE_0, aftE_x, aftE_none, aftE_ite, hdk_h, hdk_0, kLd, kS1, kS2, kInc, goB, kIf, kIf2, kNul, kTab, ldK, ariK, kGet, kPut, kPuts, goO, kALd, kPutI, kPutL, kPutF, kPutD, kPutA, wI, wB, wC, wS, kLen, kNewa, kNewA, kNew, kNews, kNewX, kCast, kInst, calS, kStat, calV, nulT, kVirt, kRetI, kRetL, kRetF, kRetD, kRetA, kRet0, kThr, kSpc, calI, kStt, kNat, kCpy, tI_, tL_, tF_, tD_, tA_n, tA_r, tC1_i, tC1_f, tC1_r, tC2_l, tC2_d, tA_rf, lg_nil, lg_cons, lin_nil, lin_cons, lf1_nil, lf1_cons, lf2_nil, lf2_cons, ls1, ls2, lent_nil, lent_cons, cat_int, cat_long, cat_float, cat_double, cat_null, cat_ref, cat_rf, rf_some, rf_none, f4_0, f4_1, f4_2, f4_3, popN_0, popN_s, wds_nil, wds_cons, asc_nil, asc_cons, pI_c, pII_c, pL_c, pLL_c, pLI_c, pF_c, pFF_c, pD_c, pDD_c, mapc_some, mapc_none, mapc_ite, sdup_c, spop_c, sdupx1_c, sdup2_c, br1_eq, br1_ne, br1_lt, br1_ge, br1_gt, br1_le, br2_eq, br2_ne, br2_lt, br2_ge, br2_gt, br2_le, tgt, tgOk, hfd, gI_sI, gI_sL, gI_sF, gI_sD, gI_sR, gL_sI, gL_sL, gL_sF, gL_sD, gL_sR, gF_sI, gF_sL, gF_sF, gF_sD, gF_sR, gD_sI, gD_sL, gD_sF, gD_sD, gD_sR, gR_sI, gR_sL, gR_sF, gR_sD, gR_sR, gI_alo, gL_alo, gF_alo, gD_alo, gR_alo, kd_sI, kd_sL, kd_sF, kd_sD, kd_sR, nx_sI, nx_sL, nx_sF, nx_sD, nx_sR, nc_sI, nc_sL, nc_sF, nc_sD, nc_sR, ns_sI, ns_sL, ns_sF, ns_sD, ns_sR, kd_alo, nx_alo, nc_alo, ns_alo, narO_0, narO_1, narO_2, narO_3, narO_4, vF_0, vF_1, vF_2, vF_3, vF_4, vF_5, vF_6, vF_7, vF_8, stF_int, stF_long, stF_float, stF_double, stF_null, stF_ref, stF_rf, Nat.reduceAdd, Nat.reduceSub, Nat.reduceMul, Nat.reduceEqDiff, Nat.reduceBEq, Nat.reduceLeDiff, Nat.reduceBneDiff, Int.reduceAdd, Int.reduceSub, Int.reduceNeg, Int.reduceToNat, Int.reduceLE, Int.reduceLT, Int.cast_ofNat_Int, reduceIte, ite_true, ite_false, and_true, true_and, and_false, false_and, and_self, or_true, true_or, or_false, false_or, decide_true, decide_false, decide_eq_true_eq, eq_self, not_true_eq_false, not_false_eq_true, reduceCtorEq, Bool.false_eq_true, Nat.reduceLT, Int.ofNat_zero, Int.natCast_zero, hF_41_139, hF_41_142, hF_41_143, hF_41_144, hF_41_145, bp_6, ic_0, ic_1, ic_3, ct_204, ct_300, ct_200, ct_201, ct_301, ct_202, ct_203, ct_205, ct_206, ct_207, ct_210, ct_211, ct_212, ct_213, ct_214, ct_215, ct_216, ct_217, ct_218, ia_200, ia_201, ia_202, ia_203, ia_204, ia_205, ia_206, ia_207, ia_210, ia_211, ia_212, ia_213, ia_214, ia_215, ia_216, ia_217, ia_218, ia_300, ia_301, ne_eq, okd, okf, dc0, dc1, Fin.isValue, Fin.reduceEq, lit_eq, lit_m1, lit_m2, nb_0, nb_1, Nat.reduceMod, Int32.reduceLT, Int32.reduceAdd, Int32.reduceSub, Int32.reduceMul, kArT, nx_ML, nc_ML, ns_ML, kd_ML, gI_ML_170_145, sI_ML_170_145, gI_ML_170_147, sI_ML_170_147, gI_ML_170_148, sI_ML_170_148, gI_ML, gL_ML, sL_ML, gF_ML, sF_ML, gD_ML, sD_ML, gR_ML, sR_ML, fk_170 H, fr_170_139 H, fk_171 H, fr_170_142 H, fk_172 H, fr_170_143 H, fk_173 H, fr_170_144 H, fk_174 H, kt, hl, e1, e2, t1, t2, m3', m6', b2i_f]
theorem is_10 {h : Hp} (H : FX h) {n L i : Nat} (K : MTK h n L) (hi : i ≤ L) (w : Nat) (bg wr : Int32) : evM (w + 112) 430 [.ref 170, .ref 10] (ML h (i3 i) bg wr) = some (.inl (some (.int (b2i (isW (tkOf (gI h 171) n) 0 i)))), ML h (i3 i) bg wr) := by
  rw [w_is H K w (j := 0) rfl (by decide) hi bg wr, show mTx (gI h 171) n i 0 = isW (tkOf (gI h 171) n) 0 i from mTx_w (t := gI h 171) (n := n) (i := i) (j := 0) (by decide)]
theorem is_12 {h : Hp} (H : FX h) {n L i : Nat} (K : MTK h n L) (hi : i ≤ L) (w : Nat) (bg wr : Int32) : evM (w + 112) 430 [.ref 170, .ref 12] (ML h (i3 i) bg wr) = some (.inl (some (.int (b2i (isW (tkOf (gI h 171) n) 1 i)))), ML h (i3 i) bg wr) := by
  rw [w_is H K w (j := 1) rfl (by decide) hi bg wr, show mTx (gI h 171) n i 1 = isW (tkOf (gI h 171) n) 1 i from mTx_w (t := gI h 171) (n := n) (i := i) (j := 1) (by decide)]
theorem is_14 {h : Hp} (H : FX h) {n L i : Nat} (K : MTK h n L) (hi : i ≤ L) (w : Nat) (bg wr : Int32) : evM (w + 112) 430 [.ref 170, .ref 14] (ML h (i3 i) bg wr) = some (.inl (some (.int (b2i (isW (tkOf (gI h 171) n) 2 i)))), ML h (i3 i) bg wr) := by
  rw [w_is H K w (j := 2) rfl (by decide) hi bg wr, show mTx (gI h 171) n i 2 = isW (tkOf (gI h 171) n) 2 i from mTx_w (t := gI h 171) (n := n) (i := i) (j := 2) (by decide)]
theorem is_16 {h : Hp} (H : FX h) {n L i : Nat} (K : MTK h n L) (hi : i ≤ L) (w : Nat) (bg wr : Int32) : evM (w + 112) 430 [.ref 170, .ref 16] (ML h (i3 i) bg wr) = some (.inl (some (.int (b2i (isW (tkOf (gI h 171) n) 3 i)))), ML h (i3 i) bg wr) := by
  rw [w_is H K w (j := 3) rfl (by decide) hi bg wr, show mTx (gI h 171) n i 3 = isW (tkOf (gI h 171) n) 3 i from mTx_w (t := gI h 171) (n := n) (i := i) (j := 3) (by decide)]
theorem is_18 {h : Hp} (H : FX h) {n L i : Nat} (K : MTK h n L) (hi : i ≤ L) (w : Nat) (bg wr : Int32) : evM (w + 112) 430 [.ref 170, .ref 18] (ML h (i3 i) bg wr) = some (.inl (some (.int (b2i (isW (tkOf (gI h 171) n) 4 i)))), ML h (i3 i) bg wr) := by
  rw [w_is H K w (j := 4) rfl (by decide) hi bg wr, show mTx (gI h 171) n i 4 = isW (tkOf (gI h 171) n) 4 i from mTx_w (t := gI h 171) (n := n) (i := i) (j := 4) (by decide)]
theorem is_20 {h : Hp} (H : FX h) {n L i : Nat} (K : MTK h n L) (hi : i ≤ L) (w : Nat) (bg wr : Int32) : evM (w + 112) 430 [.ref 170, .ref 20] (ML h (i3 i) bg wr) = some (.inl (some (.int (b2i (isW (tkOf (gI h 171) n) 5 i)))), ML h (i3 i) bg wr) := by
  rw [w_is H K w (j := 5) rfl (by decide) hi bg wr, show mTx (gI h 171) n i 5 = isW (tkOf (gI h 171) n) 5 i from mTx_w (t := gI h 171) (n := n) (i := i) (j := 5) (by decide)]
theorem is_22 {h : Hp} (H : FX h) {n L i : Nat} (K : MTK h n L) (hi : i ≤ L) (w : Nat) (bg wr : Int32) : evM (w + 112) 430 [.ref 170, .ref 22] (ML h (i3 i) bg wr) = some (.inl (some (.int (b2i (isW (tkOf (gI h 171) n) 6 i)))), ML h (i3 i) bg wr) := by
  rw [w_is H K w (j := 6) rfl (by decide) hi bg wr, show mTx (gI h 171) n i 6 = isW (tkOf (gI h 171) n) 6 i from mTx_w (t := gI h 171) (n := n) (i := i) (j := 6) (by decide)]
theorem is_24 {h : Hp} (H : FX h) {n L i : Nat} (K : MTK h n L) (hi : i ≤ L) (w : Nat) (bg wr : Int32) : evM (w + 112) 430 [.ref 170, .ref 24] (ML h (i3 i) bg wr) = some (.inl (some (.int (b2i (isW (tkOf (gI h 171) n) 7 i)))), ML h (i3 i) bg wr) := by
  rw [w_is H K w (j := 7) rfl (by decide) hi bg wr, show mTx (gI h 171) n i 7 = isW (tkOf (gI h 171) n) 7 i from mTx_w (t := gI h 171) (n := n) (i := i) (j := 7) (by decide)]
theorem is_26 {h : Hp} (H : FX h) {n L i : Nat} (K : MTK h n L) (hi : i ≤ L) (w : Nat) (bg wr : Int32) : evM (w + 112) 430 [.ref 170, .ref 26] (ML h (i3 i) bg wr) = some (.inl (some (.int (b2i (isW (tkOf (gI h 171) n) 8 i)))), ML h (i3 i) bg wr) := by
  rw [w_is H K w (j := 8) rfl (by decide) hi bg wr, show mTx (gI h 171) n i 8 = isW (tkOf (gI h 171) n) 8 i from mTx_w (t := gI h 171) (n := n) (i := i) (j := 8) (by decide)]
theorem is_28 {h : Hp} (H : FX h) {n L i : Nat} (K : MTK h n L) (hi : i ≤ L) (w : Nat) (bg wr : Int32) : evM (w + 112) 430 [.ref 170, .ref 28] (ML h (i3 i) bg wr) = some (.inl (some (.int (b2i (isW (tkOf (gI h 171) n) 9 i)))), ML h (i3 i) bg wr) := by
  rw [w_is H K w (j := 9) rfl (by decide) hi bg wr, show mTx (gI h 171) n i 9 = isW (tkOf (gI h 171) n) 9 i from mTx_w (t := gI h 171) (n := n) (i := i) (j := 9) (by decide)]
theorem is_30 {h : Hp} (H : FX h) {n L i : Nat} (K : MTK h n L) (hi : i ≤ L) (w : Nat) (bg wr : Int32) : evM (w + 112) 430 [.ref 170, .ref 30] (ML h (i3 i) bg wr) = some (.inl (some (.int (b2i (isW (tkOf (gI h 171) n) 10 i)))), ML h (i3 i) bg wr) := by
  rw [w_is H K w (j := 10) rfl (by decide) hi bg wr, show mTx (gI h 171) n i 10 = isW (tkOf (gI h 171) n) 10 i from mTx_w (t := gI h 171) (n := n) (i := i) (j := 10) (by decide)]
theorem is_32 {h : Hp} (H : FX h) {n L i : Nat} (K : MTK h n L) (hi : i ≤ L) (w : Nat) (bg wr : Int32) : evM (w + 112) 430 [.ref 170, .ref 32] (ML h (i3 i) bg wr) = some (.inl (some (.int (b2i (isW (tkOf (gI h 171) n) 11 i)))), ML h (i3 i) bg wr) := by
  rw [w_is H K w (j := 11) rfl (by decide) hi bg wr, show mTx (gI h 171) n i 11 = isW (tkOf (gI h 171) n) 11 i from mTx_w (t := gI h 171) (n := n) (i := i) (j := 11) (by decide)]
theorem is_34 {h : Hp} (H : FX h) {n L i : Nat} (K : MTK h n L) (hi : i ≤ L) (w : Nat) (bg wr : Int32) : evM (w + 112) 430 [.ref 170, .ref 34] (ML h (i3 i) bg wr) = some (.inl (some (.int (b2i (isW (tkOf (gI h 171) n) 12 i)))), ML h (i3 i) bg wr) := by
  rw [w_is H K w (j := 12) rfl (by decide) hi bg wr, show mTx (gI h 171) n i 12 = isW (tkOf (gI h 171) n) 12 i from mTx_w (t := gI h 171) (n := n) (i := i) (j := 12) (by decide)]
theorem is_36 {h : Hp} (H : FX h) {n L i : Nat} (K : MTK h n L) (hi : i ≤ L) (w : Nat) (bg wr : Int32) : evM (w + 112) 430 [.ref 170, .ref 36] (ML h (i3 i) bg wr) = some (.inl (some (.int (b2i (isW (tkOf (gI h 171) n) 13 i)))), ML h (i3 i) bg wr) := by
  rw [w_is H K w (j := 13) rfl (by decide) hi bg wr, show mTx (gI h 171) n i 13 = isW (tkOf (gI h 171) n) 13 i from mTx_w (t := gI h 171) (n := n) (i := i) (j := 13) (by decide)]
theorem is_38 {h : Hp} (H : FX h) {n L i : Nat} (K : MTK h n L) (hi : i ≤ L) (w : Nat) (bg wr : Int32) : evM (w + 112) 430 [.ref 170, .ref 38] (ML h (i3 i) bg wr) = some (.inl (some (.int (b2i (isW (tkOf (gI h 171) n) 14 i)))), ML h (i3 i) bg wr) := by
  rw [w_is H K w (j := 14) rfl (by decide) hi bg wr, show mTx (gI h 171) n i 14 = isW (tkOf (gI h 171) n) 14 i from mTx_w (t := gI h 171) (n := n) (i := i) (j := 14) (by decide)]
theorem is_40 {h : Hp} (H : FX h) {n L i : Nat} (K : MTK h n L) (hi : i ≤ L) (w : Nat) (bg wr : Int32) : evM (w + 112) 430 [.ref 170, .ref 40] (ML h (i3 i) bg wr) = some (.inl (some (.int (b2i (isW (tkOf (gI h 171) n) 15 i)))), ML h (i3 i) bg wr) := by
  rw [w_is H K w (j := 15) rfl (by decide) hi bg wr, show mTx (gI h 171) n i 15 = isW (tkOf (gI h 171) n) 15 i from mTx_w (t := gI h 171) (n := n) (i := i) (j := 15) (by decide)]
theorem is_42 {h : Hp} (H : FX h) {n L i : Nat} (K : MTK h n L) (hi : i ≤ L) (w : Nat) (bg wr : Int32) : evM (w + 112) 430 [.ref 170, .ref 42] (ML h (i3 i) bg wr) = some (.inl (some (.int (b2i (isW (tkOf (gI h 171) n) 16 i)))), ML h (i3 i) bg wr) := by
  rw [w_is H K w (j := 16) rfl (by decide) hi bg wr, show mTx (gI h 171) n i 16 = isW (tkOf (gI h 171) n) 16 i from mTx_w (t := gI h 171) (n := n) (i := i) (j := 16) (by decide)]
theorem is_44 {h : Hp} (H : FX h) {n L i : Nat} (K : MTK h n L) (hi : i ≤ L) (w : Nat) (bg wr : Int32) : evM (w + 112) 430 [.ref 170, .ref 44] (ML h (i3 i) bg wr) = some (.inl (some (.int (b2i (isW (tkOf (gI h 171) n) 17 i)))), ML h (i3 i) bg wr) := by
  rw [w_is H K w (j := 17) rfl (by decide) hi bg wr, show mTx (gI h 171) n i 17 = isW (tkOf (gI h 171) n) 17 i from mTx_w (t := gI h 171) (n := n) (i := i) (j := 17) (by decide)]
theorem is_46 {h : Hp} (H : FX h) {n L i : Nat} (K : MTK h n L) (hi : i ≤ L) (w : Nat) (bg wr : Int32) : evM (w + 112) 430 [.ref 170, .ref 46] (ML h (i3 i) bg wr) = some (.inl (some (.int (b2i (isW (tkOf (gI h 171) n) 18 i)))), ML h (i3 i) bg wr) := by
  rw [w_is H K w (j := 18) rfl (by decide) hi bg wr, show mTx (gI h 171) n i 18 = isW (tkOf (gI h 171) n) 18 i from mTx_w (t := gI h 171) (n := n) (i := i) (j := 18) (by decide)]
theorem is_48 {h : Hp} (H : FX h) {n L i : Nat} (K : MTK h n L) (hi : i ≤ L) (w : Nat) (bg wr : Int32) : evM (w + 112) 430 [.ref 170, .ref 48] (ML h (i3 i) bg wr) = some (.inl (some (.int (b2i (isW (tkOf (gI h 171) n) 19 i)))), ML h (i3 i) bg wr) := by
  rw [w_is H K w (j := 19) rfl (by decide) hi bg wr, show mTx (gI h 171) n i 19 = isW (tkOf (gI h 171) n) 19 i from mTx_w (t := gI h 171) (n := n) (i := i) (j := 19) (by decide)]
theorem is_50 {h : Hp} (H : FX h) {n L i : Nat} (K : MTK h n L) (hi : i ≤ L) (w : Nat) (bg wr : Int32) : evM (w + 112) 430 [.ref 170, .ref 50] (ML h (i3 i) bg wr) = some (.inl (some (.int (b2i (isW (tkOf (gI h 171) n) 20 i)))), ML h (i3 i) bg wr) := by
  rw [w_is H K w (j := 20) rfl (by decide) hi bg wr, show mTx (gI h 171) n i 20 = isW (tkOf (gI h 171) n) 20 i from mTx_w (t := gI h 171) (n := n) (i := i) (j := 20) (by decide)]
theorem is_52 {h : Hp} (H : FX h) {n L i : Nat} (K : MTK h n L) (hi : i ≤ L) (w : Nat) (bg wr : Int32) : evM (w + 112) 430 [.ref 170, .ref 52] (ML h (i3 i) bg wr) = some (.inl (some (.int (b2i (isW (tkOf (gI h 171) n) 21 i)))), ML h (i3 i) bg wr) := by
  rw [w_is H K w (j := 21) rfl (by decide) hi bg wr, show mTx (gI h 171) n i 21 = isW (tkOf (gI h 171) n) 21 i from mTx_w (t := gI h 171) (n := n) (i := i) (j := 21) (by decide)]
theorem is_54 {h : Hp} (H : FX h) {n L i : Nat} (K : MTK h n L) (hi : i ≤ L) (w : Nat) (bg wr : Int32) : evM (w + 112) 430 [.ref 170, .ref 54] (ML h (i3 i) bg wr) = some (.inl (some (.int (b2i (isW (tkOf (gI h 171) n) 22 i)))), ML h (i3 i) bg wr) := by
  rw [w_is H K w (j := 22) rfl (by decide) hi bg wr, show mTx (gI h 171) n i 22 = isW (tkOf (gI h 171) n) 22 i from mTx_w (t := gI h 171) (n := n) (i := i) (j := 22) (by decide)]
theorem is_56 {h : Hp} (H : FX h) {n L i : Nat} (K : MTK h n L) (hi : i ≤ L) (w : Nat) (bg wr : Int32) : evM (w + 112) 430 [.ref 170, .ref 56] (ML h (i3 i) bg wr) = some (.inl (some (.int (b2i (isW (tkOf (gI h 171) n) 23 i)))), ML h (i3 i) bg wr) := by
  rw [w_is H K w (j := 23) rfl (by decide) hi bg wr, show mTx (gI h 171) n i 23 = isW (tkOf (gI h 171) n) 23 i from mTx_w (t := gI h 171) (n := n) (i := i) (j := 23) (by decide)]
theorem is_58 {h : Hp} (H : FX h) {n L i : Nat} (K : MTK h n L) (hi : i ≤ L) (w : Nat) (bg wr : Int32) : evM (w + 112) 430 [.ref 170, .ref 58] (ML h (i3 i) bg wr) = some (.inl (some (.int (b2i (isW (tkOf (gI h 171) n) 24 i)))), ML h (i3 i) bg wr) := by
  rw [w_is H K w (j := 24) rfl (by decide) hi bg wr, show mTx (gI h 171) n i 24 = isW (tkOf (gI h 171) n) 24 i from mTx_w (t := gI h 171) (n := n) (i := i) (j := 24) (by decide)]
theorem is_60 {h : Hp} (H : FX h) {n L i : Nat} (K : MTK h n L) (hi : i ≤ L) (w : Nat) (bg wr : Int32) : evM (w + 112) 430 [.ref 170, .ref 60] (ML h (i3 i) bg wr) = some (.inl (some (.int (b2i (isW (tkOf (gI h 171) n) 25 i)))), ML h (i3 i) bg wr) := by
  rw [w_is H K w (j := 25) rfl (by decide) hi bg wr, show mTx (gI h 171) n i 25 = isW (tkOf (gI h 171) n) 25 i from mTx_w (t := gI h 171) (n := n) (i := i) (j := 25) (by decide)]
theorem is_62 {h : Hp} (H : FX h) {n L i : Nat} (K : MTK h n L) (hi : i ≤ L) (w : Nat) (bg wr : Int32) : evM (w + 112) 430 [.ref 170, .ref 62] (ML h (i3 i) bg wr) = some (.inl (some (.int (b2i (isW (tkOf (gI h 171) n) 26 i)))), ML h (i3 i) bg wr) := by
  rw [w_is H K w (j := 26) rfl (by decide) hi bg wr, show mTx (gI h 171) n i 26 = isW (tkOf (gI h 171) n) 26 i from mTx_w (t := gI h 171) (n := n) (i := i) (j := 26) (by decide)]
theorem is_64 {h : Hp} (H : FX h) {n L i : Nat} (K : MTK h n L) (hi : i ≤ L) (w : Nat) (bg wr : Int32) : evM (w + 112) 430 [.ref 170, .ref 64] (ML h (i3 i) bg wr) = some (.inl (some (.int (b2i (isW (tkOf (gI h 171) n) 27 i)))), ML h (i3 i) bg wr) := by
  rw [w_is H K w (j := 27) rfl (by decide) hi bg wr, show mTx (gI h 171) n i 27 = isW (tkOf (gI h 171) n) 27 i from mTx_w (t := gI h 171) (n := n) (i := i) (j := 27) (by decide)]
theorem is_66 {h : Hp} (H : FX h) {n L i : Nat} (K : MTK h n L) (hi : i ≤ L) (w : Nat) (bg wr : Int32) : evM (w + 112) 430 [.ref 170, .ref 66] (ML h (i3 i) bg wr) = some (.inl (some (.int (b2i (isW (tkOf (gI h 171) n) 28 i)))), ML h (i3 i) bg wr) := by
  rw [w_is H K w (j := 28) rfl (by decide) hi bg wr, show mTx (gI h 171) n i 28 = isW (tkOf (gI h 171) n) 28 i from mTx_w (t := gI h 171) (n := n) (i := i) (j := 28) (by decide)]
theorem is_68 {h : Hp} (H : FX h) {n L i : Nat} (K : MTK h n L) (hi : i ≤ L) (w : Nat) (bg wr : Int32) : evM (w + 112) 430 [.ref 170, .ref 68] (ML h (i3 i) bg wr) = some (.inl (some (.int (b2i (isW (tkOf (gI h 171) n) 29 i)))), ML h (i3 i) bg wr) := by
  rw [w_is H K w (j := 29) rfl (by decide) hi bg wr, show mTx (gI h 171) n i 29 = isW (tkOf (gI h 171) n) 29 i from mTx_w (t := gI h 171) (n := n) (i := i) (j := 29) (by decide)]
theorem is_70 {h : Hp} (H : FX h) {n L i : Nat} (K : MTK h n L) (hi : i ≤ L) (w : Nat) (bg wr : Int32) : evM (w + 112) 430 [.ref 170, .ref 70] (ML h (i3 i) bg wr) = some (.inl (some (.int (b2i (isW (tkOf (gI h 171) n) 30 i)))), ML h (i3 i) bg wr) := by
  rw [w_is H K w (j := 30) rfl (by decide) hi bg wr, show mTx (gI h 171) n i 30 = isW (tkOf (gI h 171) n) 30 i from mTx_w (t := gI h 171) (n := n) (i := i) (j := 30) (by decide)]
theorem is_72 {h : Hp} (H : FX h) {n L i : Nat} (K : MTK h n L) (hi : i ≤ L) (w : Nat) (bg wr : Int32) : evM (w + 112) 430 [.ref 170, .ref 72] (ML h (i3 i) bg wr) = some (.inl (some (.int (b2i (isW (tkOf (gI h 171) n) 31 i)))), ML h (i3 i) bg wr) := by
  rw [w_is H K w (j := 31) rfl (by decide) hi bg wr, show mTx (gI h 171) n i 31 = isW (tkOf (gI h 171) n) 31 i from mTx_w (t := gI h 171) (n := n) (i := i) (j := 31) (by decide)]
theorem is_74 {h : Hp} (H : FX h) {n L i : Nat} (K : MTK h n L) (hi : i ≤ L) (w : Nat) (bg wr : Int32) : evM (w + 112) 430 [.ref 170, .ref 74] (ML h (i3 i) bg wr) = some (.inl (some (.int (b2i (isW (tkOf (gI h 171) n) 32 i)))), ML h (i3 i) bg wr) := by
  rw [w_is H K w (j := 32) rfl (by decide) hi bg wr, show mTx (gI h 171) n i 32 = isW (tkOf (gI h 171) n) 32 i from mTx_w (t := gI h 171) (n := n) (i := i) (j := 32) (by decide)]
theorem is_76 {h : Hp} (H : FX h) {n L i : Nat} (K : MTK h n L) (hi : i ≤ L) (w : Nat) (bg wr : Int32) : evM (w + 112) 430 [.ref 170, .ref 76] (ML h (i3 i) bg wr) = some (.inl (some (.int (b2i (isW (tkOf (gI h 171) n) 33 i)))), ML h (i3 i) bg wr) := by
  rw [w_is H K w (j := 33) rfl (by decide) hi bg wr, show mTx (gI h 171) n i 33 = isW (tkOf (gI h 171) n) 33 i from mTx_w (t := gI h 171) (n := n) (i := i) (j := 33) (by decide)]
theorem is_78 {h : Hp} (H : FX h) {n L i : Nat} (K : MTK h n L) (hi : i ≤ L) (w : Nat) (bg wr : Int32) : evM (w + 112) 430 [.ref 170, .ref 78] (ML h (i3 i) bg wr) = some (.inl (some (.int (b2i (isW (tkOf (gI h 171) n) 34 i)))), ML h (i3 i) bg wr) := by
  rw [w_is H K w (j := 34) rfl (by decide) hi bg wr, show mTx (gI h 171) n i 34 = isW (tkOf (gI h 171) n) 34 i from mTx_w (t := gI h 171) (n := n) (i := i) (j := 34) (by decide)]
theorem is_80 {h : Hp} (H : FX h) {n L i : Nat} (K : MTK h n L) (hi : i ≤ L) (w : Nat) (bg wr : Int32) : evM (w + 112) 430 [.ref 170, .ref 80] (ML h (i3 i) bg wr) = some (.inl (some (.int (b2i (isW (tkOf (gI h 171) n) 35 i)))), ML h (i3 i) bg wr) := by
  rw [w_is H K w (j := 35) rfl (by decide) hi bg wr, show mTx (gI h 171) n i 35 = isW (tkOf (gI h 171) n) 35 i from mTx_w (t := gI h 171) (n := n) (i := i) (j := 35) (by decide)]
theorem is_82 {h : Hp} (H : FX h) {n L i : Nat} (K : MTK h n L) (hi : i ≤ L) (w : Nat) (bg wr : Int32) : evM (w + 112) 430 [.ref 170, .ref 82] (ML h (i3 i) bg wr) = some (.inl (some (.int (b2i (isW (tkOf (gI h 171) n) 36 i)))), ML h (i3 i) bg wr) := by
  rw [w_is H K w (j := 36) rfl (by decide) hi bg wr, show mTx (gI h 171) n i 36 = isW (tkOf (gI h 171) n) 36 i from mTx_w (t := gI h 171) (n := n) (i := i) (j := 36) (by decide)]
theorem is_90 {h : Hp} (H : FX h) {n L i : Nat} (K : MTK h n L) (hi : i ≤ L) (w : Nat) (bg wr : Int32) : evM (w + 112) 430 [.ref 170, .ref 90] (ML h (i3 i) bg wr) = some (.inl (some (.int (b2i (isS (tkOf (gI h 171) n) 61 i)))), ML h (i3 i) bg wr) := by
  rw [w_is H K w (j := 40) rfl (by decide) hi bg wr, show mTx (gI h 171) n i 40 = isS (tkOf (gI h 171) n) 61 i from mTx_s1 (t := gI h 171) (n := n) (i := i) (j := 40) K.2.2.2.1 (by decide +kernel) (c := 61) (by decide +kernel) (by decide) (by decide)]
theorem is_92 {h : Hp} (H : FX h) {n L i : Nat} (K : MTK h n L) (hi : i ≤ L) (w : Nat) (bg wr : Int32) : evM (w + 112) 430 [.ref 170, .ref 92] (ML h (i3 i) bg wr) = some (.inl (some (.int (b2i (isS (tkOf (gI h 171) n) 45 i)))), ML h (i3 i) bg wr) := by
  rw [w_is H K w (j := 41) rfl (by decide) hi bg wr, show mTx (gI h 171) n i 41 = isS (tkOf (gI h 171) n) 45 i from mTx_s1 (t := gI h 171) (n := n) (i := i) (j := 41) K.2.2.2.1 (by decide +kernel) (c := 45) (by decide +kernel) (by decide) (by decide)]
theorem is_94 {h : Hp} (H : FX h) {n L i : Nat} (K : MTK h n L) (hi : i ≤ L) (w : Nat) (bg wr : Int32) : evM (w + 112) 430 [.ref 170, .ref 94] (ML h (i3 i) bg wr) = some (.inl (some (.int (b2i (isS (tkOf (gI h 171) n) 40 i)))), ML h (i3 i) bg wr) := by
  rw [w_is H K w (j := 42) rfl (by decide) hi bg wr, show mTx (gI h 171) n i 42 = isS (tkOf (gI h 171) n) 40 i from mTx_s1 (t := gI h 171) (n := n) (i := i) (j := 42) K.2.2.2.1 (by decide +kernel) (c := 40) (by decide +kernel) (by decide) (by decide)]
theorem is_96 {h : Hp} (H : FX h) {n L i : Nat} (K : MTK h n L) (hi : i ≤ L) (w : Nat) (bg wr : Int32) : evM (w + 112) 430 [.ref 170, .ref 96] (ML h (i3 i) bg wr) = some (.inl (some (.int (b2i (isS (tkOf (gI h 171) n) 41 i)))), ML h (i3 i) bg wr) := by
  rw [w_is H K w (j := 43) rfl (by decide) hi bg wr, show mTx (gI h 171) n i 43 = isS (tkOf (gI h 171) n) 41 i from mTx_s1 (t := gI h 171) (n := n) (i := i) (j := 43) K.2.2.2.1 (by decide +kernel) (c := 41) (by decide +kernel) (by decide) (by decide)]
theorem is_98 {h : Hp} (H : FX h) {n L i : Nat} (K : MTK h n L) (hi : i ≤ L) (w : Nat) (bg wr : Int32) : evM (w + 112) 430 [.ref 170, .ref 98] (ML h (i3 i) bg wr) = some (.inl (some (.int (b2i (isS (tkOf (gI h 171) n) 42 i)))), ML h (i3 i) bg wr) := by
  rw [w_is H K w (j := 44) rfl (by decide) hi bg wr, show mTx (gI h 171) n i 44 = isS (tkOf (gI h 171) n) 42 i from mTx_s1 (t := gI h 171) (n := n) (i := i) (j := 44) K.2.2.2.1 (by decide +kernel) (c := 42) (by decide +kernel) (by decide) (by decide)]
theorem is_100 {h : Hp} (H : FX h) {n L i : Nat} (K : MTK h n L) (hi : i ≤ L) (w : Nat) (bg wr : Int32) : evM (w + 112) 430 [.ref 170, .ref 100] (ML h (i3 i) bg wr) = some (.inl (some (.int (b2i (isS (tkOf (gI h 171) n) 47 i)))), ML h (i3 i) bg wr) := by
  rw [w_is H K w (j := 45) rfl (by decide) hi bg wr, show mTx (gI h 171) n i 45 = isS (tkOf (gI h 171) n) 47 i from mTx_s1 (t := gI h 171) (n := n) (i := i) (j := 45) K.2.2.2.1 (by decide +kernel) (c := 47) (by decide +kernel) (by decide) (by decide)]
theorem is_102 {h : Hp} (H : FX h) {n L i : Nat} (K : MTK h n L) (hi : i ≤ L) (w : Nat) (bg wr : Int32) : evM (w + 112) 430 [.ref 170, .ref 102] (ML h (i3 i) bg wr) = some (.inl (some (.int (b2i (isS (tkOf (gI h 171) n) 37 i)))), ML h (i3 i) bg wr) := by
  rw [w_is H K w (j := 46) rfl (by decide) hi bg wr, show mTx (gI h 171) n i 46 = isS (tkOf (gI h 171) n) 37 i from mTx_s1 (t := gI h 171) (n := n) (i := i) (j := 46) K.2.2.2.1 (by decide +kernel) (c := 37) (by decide +kernel) (by decide) (by decide)]
theorem is_104 {h : Hp} (H : FX h) {n L i : Nat} (K : MTK h n L) (hi : i ≤ L) (w : Nat) (bg wr : Int32) : evM (w + 112) 430 [.ref 170, .ref 104] (ML h (i3 i) bg wr) = some (.inl (some (.int (b2i (isS (tkOf (gI h 171) n) 43 i)))), ML h (i3 i) bg wr) := by
  rw [w_is H K w (j := 47) rfl (by decide) hi bg wr, show mTx (gI h 171) n i 47 = isS (tkOf (gI h 171) n) 43 i from mTx_s1 (t := gI h 171) (n := n) (i := i) (j := 47) K.2.2.2.1 (by decide +kernel) (c := 43) (by decide +kernel) (by decide) (by decide)]
theorem is_106 {h : Hp} (H : FX h) {n L i : Nat} (K : MTK h n L) (hi : i ≤ L) (w : Nat) (bg wr : Int32) : evM (w + 112) 430 [.ref 170, .ref 106] (ML h (i3 i) bg wr) = some (.inl (some (.int (b2i (isS (tkOf (gI h 171) n) 58 i)))), ML h (i3 i) bg wr) := by
  rw [w_is H K w (j := 48) rfl (by decide) hi bg wr, show mTx (gI h 171) n i 48 = isS (tkOf (gI h 171) n) 58 i from mTx_s1 (t := gI h 171) (n := n) (i := i) (j := 48) K.2.2.2.1 (by decide +kernel) (c := 58) (by decide +kernel) (by decide) (by decide)]
theorem is_108 {h : Hp} (H : FX h) {n L i : Nat} (K : MTK h n L) (hi : i ≤ L) (w : Nat) (bg wr : Int32) : evM (w + 112) 430 [.ref 170, .ref 108] (ML h (i3 i) bg wr) = some (.inl (some (.int (b2i (isS (tkOf (gI h 171) n) 91 i)))), ML h (i3 i) bg wr) := by
  rw [w_is H K w (j := 49) rfl (by decide) hi bg wr, show mTx (gI h 171) n i 49 = isS (tkOf (gI h 171) n) 91 i from mTx_s1 (t := gI h 171) (n := n) (i := i) (j := 49) K.2.2.2.1 (by decide +kernel) (c := 91) (by decide +kernel) (by decide) (by decide)]
theorem is_110 {h : Hp} (H : FX h) {n L i : Nat} (K : MTK h n L) (hi : i ≤ L) (w : Nat) (bg wr : Int32) : evM (w + 112) 430 [.ref 170, .ref 110] (ML h (i3 i) bg wr) = some (.inl (some (.int (b2i (isS (tkOf (gI h 171) n) 44 i)))), ML h (i3 i) bg wr) := by
  rw [w_is H K w (j := 50) rfl (by decide) hi bg wr, show mTx (gI h 171) n i 50 = isS (tkOf (gI h 171) n) 44 i from mTx_s1 (t := gI h 171) (n := n) (i := i) (j := 50) K.2.2.2.1 (by decide +kernel) (c := 44) (by decide +kernel) (by decide) (by decide)]
theorem is_112 {h : Hp} (H : FX h) {n L i : Nat} (K : MTK h n L) (hi : i ≤ L) (w : Nat) (bg wr : Int32) : evM (w + 112) 430 [.ref 170, .ref 112] (ML h (i3 i) bg wr) = some (.inl (some (.int (b2i (isS (tkOf (gI h 171) n) 93 i)))), ML h (i3 i) bg wr) := by
  rw [w_is H K w (j := 51) rfl (by decide) hi bg wr, show mTx (gI h 171) n i 51 = isS (tkOf (gI h 171) n) 93 i from mTx_s1 (t := gI h 171) (n := n) (i := i) (j := 51) K.2.2.2.1 (by decide +kernel) (c := 93) (by decide +kernel) (by decide) (by decide)]
theorem is_114 {h : Hp} (H : FX h) {n L i : Nat} (K : MTK h n L) (hi : i ≤ L) (w : Nat) (bg wr : Int32) : evM (w + 112) 430 [.ref 170, .ref 114] (ML h (i3 i) bg wr) = some (.inl (some (.int (b2i (isS (tkOf (gI h 171) n) 123 i)))), ML h (i3 i) bg wr) := by
  rw [w_is H K w (j := 52) rfl (by decide) hi bg wr, show mTx (gI h 171) n i 52 = isS (tkOf (gI h 171) n) 123 i from mTx_s1 (t := gI h 171) (n := n) (i := i) (j := 52) K.2.2.2.1 (by decide +kernel) (c := 123) (by decide +kernel) (by decide) (by decide)]
theorem is_116 {h : Hp} (H : FX h) {n L i : Nat} (K : MTK h n L) (hi : i ≤ L) (w : Nat) (bg wr : Int32) : evM (w + 112) 430 [.ref 170, .ref 116] (ML h (i3 i) bg wr) = some (.inl (some (.int (b2i (isS (tkOf (gI h 171) n) 125 i)))), ML h (i3 i) bg wr) := by
  rw [w_is H K w (j := 53) rfl (by decide) hi bg wr, show mTx (gI h 171) n i 53 = isS (tkOf (gI h 171) n) 125 i from mTx_s1 (t := gI h 171) (n := n) (i := i) (j := 53) K.2.2.2.1 (by decide +kernel) (c := 125) (by decide +kernel) (by decide) (by decide)]
theorem is_118 {h : Hp} (H : FX h) {n L i : Nat} (K : MTK h n L) (hi : i ≤ L) (w : Nat) (bg wr : Int32) : evM (w + 112) 430 [.ref 170, .ref 118] (ML h (i3 i) bg wr) = some (.inl (some (.int (b2i (isS (tkOf (gI h 171) n) 258 i)))), ML h (i3 i) bg wr) := by
  rw [w_is H K w (j := 54) rfl (by decide) hi bg wr, show mTx (gI h 171) n i 54 = isS (tkOf (gI h 171) n) 258 i from mTx_s2 (t := gI h 171) (n := n) (i := i) (j := 54) K.2.2.2.1 (x := 33) (y := 61) (K := 258) (by decide +kernel) (by decide +kernel) (by decide +kernel) (by decide) (by decide) (by decide) sgK_258]
theorem is_120 {h : Hp} (H : FX h) {n L i : Nat} (K : MTK h n L) (hi : i ≤ L) (w : Nat) (bg wr : Int32) : evM (w + 112) 430 [.ref 170, .ref 120] (ML h (i3 i) bg wr) = some (.inl (some (.int (b2i (isS (tkOf (gI h 171) n) 60 i)))), ML h (i3 i) bg wr) := by
  rw [w_is H K w (j := 55) rfl (by decide) hi bg wr, show mTx (gI h 171) n i 55 = isS (tkOf (gI h 171) n) 60 i from mTx_s1 (t := gI h 171) (n := n) (i := i) (j := 55) K.2.2.2.1 (by decide +kernel) (c := 60) (by decide +kernel) (by decide) (by decide)]
theorem is_122 {h : Hp} (H : FX h) {n L i : Nat} (K : MTK h n L) (hi : i ≤ L) (w : Nat) (bg wr : Int32) : evM (w + 112) 430 [.ref 170, .ref 122] (ML h (i3 i) bg wr) = some (.inl (some (.int (b2i (isS (tkOf (gI h 171) n) 256 i)))), ML h (i3 i) bg wr) := by
  rw [w_is H K w (j := 56) rfl (by decide) hi bg wr, show mTx (gI h 171) n i 56 = isS (tkOf (gI h 171) n) 256 i from mTx_s2 (t := gI h 171) (n := n) (i := i) (j := 56) K.2.2.2.1 (x := 60) (y := 61) (K := 256) (by decide +kernel) (by decide +kernel) (by decide +kernel) (by decide) (by decide) (by decide) sgK_256]
theorem is_124 {h : Hp} (H : FX h) {n L i : Nat} (K : MTK h n L) (hi : i ≤ L) (w : Nat) (bg wr : Int32) : evM (w + 112) 430 [.ref 170, .ref 124] (ML h (i3 i) bg wr) = some (.inl (some (.int (b2i (isS (tkOf (gI h 171) n) 62 i)))), ML h (i3 i) bg wr) := by
  rw [w_is H K w (j := 57) rfl (by decide) hi bg wr, show mTx (gI h 171) n i 57 = isS (tkOf (gI h 171) n) 62 i from mTx_s1 (t := gI h 171) (n := n) (i := i) (j := 57) K.2.2.2.1 (by decide +kernel) (c := 62) (by decide +kernel) (by decide) (by decide)]
theorem is_126 {h : Hp} (H : FX h) {n L i : Nat} (K : MTK h n L) (hi : i ≤ L) (w : Nat) (bg wr : Int32) : evM (w + 112) 430 [.ref 170, .ref 126] (ML h (i3 i) bg wr) = some (.inl (some (.int (b2i (isS (tkOf (gI h 171) n) 257 i)))), ML h (i3 i) bg wr) := by
  rw [w_is H K w (j := 58) rfl (by decide) hi bg wr, show mTx (gI h 171) n i 58 = isS (tkOf (gI h 171) n) 257 i from mTx_s2 (t := gI h 171) (n := n) (i := i) (j := 58) K.2.2.2.1 (x := 62) (y := 61) (K := 257) (by decide +kernel) (by decide +kernel) (by decide +kernel) (by decide) (by decide) (by decide) sgK_257]
theorem is_128 {h : Hp} (H : FX h) {n L i : Nat} (K : MTK h n L) (hi : i ≤ L) (w : Nat) (bg wr : Int32) : evM (w + 112) 430 [.ref 170, .ref 128] (ML h (i3 i) bg wr) = some (.inl (some (.int (b2i (isS (tkOf (gI h 171) n) 259 i)))), ML h (i3 i) bg wr) := by
  rw [w_is H K w (j := 59) rfl (by decide) hi bg wr, show mTx (gI h 171) n i 59 = isS (tkOf (gI h 171) n) 259 i from mTx_s2 (t := gI h 171) (n := n) (i := i) (j := 59) K.2.2.2.1 (x := 45) (y := 62) (K := 259) (by decide +kernel) (by decide +kernel) (by decide +kernel) (by decide) (by decide) (by decide) sgK_259]
theorem is_130 {h : Hp} (H : FX h) {n L i : Nat} (K : MTK h n L) (hi : i ≤ L) (w : Nat) (bg wr : Int32) : evM (w + 112) 430 [.ref 170, .ref 130] (ML h (i3 i) bg wr) = some (.inl (some (.int (b2i (isS (tkOf (gI h 171) n) 59 i)))), ML h (i3 i) bg wr) := by
  rw [w_is H K w (j := 60) rfl (by decide) hi bg wr, show mTx (gI h 171) n i 60 = isS (tkOf (gI h 171) n) 59 i from mTx_s1 (t := gI h 171) (n := n) (i := i) (j := 60) K.2.2.2.1 (by decide +kernel) (c := 59) (by decide +kernel) (by decide) (by decide)]

