/-! PROG 1: stepping, the fixed world. Printed by prog/pp.py -/
set_option maxRecDepth 100000
theorem evM_to (M : MT) (n c : Nat) {w N k : Nat} {as : SK} (h : Hp) (hm : mt k = M) (hc : mlc M + 19 = c) (hN : n + c = N) (hf : wds as ≤ mlc M) (ho : ovk k = 0) : evM (w + N) k as h = ev (w + n) M 0 (lent 0 as) [] h := by
  subst hm
  have e : cost k = c := by rw [cost_eq ho]; exact hc
  rw [evM_eq (by omega) hf h ho, e]
  congr 1
  omega
def upz {α : Type} (f : Nat → α) (k : Nat) (v : α) : Nat → α := fun j => if j = k then v else f j
theorem upz_eq {α : Type} (f : Nat → α) (k : Nat) (v : α) : upz f k v k = v := if_pos rfl
theorem upz_ne {α : Type} (f : Nat → α) {k j : Nat} (v : α) (h : j ≠ k) : upz f k v j = f j := if_neg h
theorem upz_at {α : Type} (f : Nat → α) (k j : Nat) (v : α) : upz f k v j = if j = k then v else f j := rfl
/-! small numbers as ints -/
def i3 (n : Nat) : Int32 := Int32.ofNat n
theorem i3_toInt {n : Nat} (h : n < 2147483648) : (i3 n).toInt = n := by
  unfold i3
  rw [Int32.toInt_ofNat']
  show Int.bmod n 4294967296 = n
  exact Int.bmod_eq_of_le (by omega) (by omega)
theorem i3_nat {n : Nat} (h : n < 2147483648) : (i3 n).toNatClampNeg = n := by
  show (i3 n).toInt.toNat = n
  rw [i3_toInt h]
  rfl
theorem i3_add (a b : Nat) : i3 a + i3 b = i3 (a + b) := (Int32.ofNat_add a b).symm
theorem i3_lt {a b : Nat} (ha : a < 2147483648) (hb : b < 2147483648) : (i3 a < i3 b) ↔ a < b := by
  rw [Int32.lt_iff_toInt_lt, i3_toInt ha, i3_toInt hb]
  omega
theorem i3_le {a b : Nat} (ha : a < 2147483648) (hb : b < 2147483648) : (i3 a ≤ i3 b) ↔ a ≤ b := by
  rw [Int32.le_iff_toInt_le, i3_toInt ha, i3_toInt hb]
  omega
theorem i3_inj {a b : Nat} (ha : a < 2147483648) (hb : b < 2147483648) : (i3 a = i3 b) ↔ a = b := by
  constructor
  · intro h
    have := congrArg Int32.toInt h
    rw [i3_toInt ha, i3_toInt hb] at this
    omega
  · rintro rfl; rfl
theorem i3_neg {a : Nat} (ha : a < 2147483648) : ¬ (i3 a < 0) := by
  rw [Int32.lt_iff_toInt_lt, i3_toInt ha]
  show ¬ ((a : Int) < 0)
  omega
theorem i3_sub {a b : Nat} (h : b ≤ a) (ha : a < 2147483648) : i3 a - i3 b = i3 (a - b) := by
  apply Int32.toInt_inj.mp
  rw [Int32.toInt_sub, i3_toInt ha, i3_toInt (by omega), i3_toInt (by omega)]
  rw [Int.bmod_eq_of_le (by omega) (by omega)]
  omega
theorem inB_i3 {i n : Nat} (h : i < n) (hn : n < 2147483648) : inB (i3 i) n = true := by
  unfold inB
  rw [i3_nat (by omega)]
  have := i3_neg (a := i) (by omega)
  simp only [decide_eq_true_eq, not_or, Nat.not_le]
  exact ⟨this, h⟩
theorem i3_lit (n : Nat) : (OfNat.ofNat n : Int32) = i3 n := rfl
theorem bp_m8 : (Int8.ofInt (-8)).toInt32 = ((-8) : Int32) := rfl
theorem bp_m7 : (Int8.ofInt (-7)).toInt32 = ((-7) : Int32) := rfl
theorem bp_m3 : (Int8.ofInt (-3)).toInt32 = ((-3) : Int32) := rfl
theorem bp_m2 : (Int8.ofInt (-2)).toInt32 = ((-2) : Int32) := rfl
theorem bp_6 : (Int8.ofInt 6).toInt32 = (6 : Int32) := rfl
theorem bp_7 : (Int8.ofInt 7).toInt32 = (7 : Int32) := rfl
theorem bp_8 : (Int8.ofInt 8).toInt32 = (8 : Int32) := rfl
theorem bp_9 : (Int8.ofInt 9).toInt32 = (9 : Int32) := rfl
theorem bp_10 : (Int8.ofInt 10).toInt32 = (10 : Int32) := rfl
theorem bp_11 : (Int8.ofInt 11).toInt32 = (11 : Int32) := rfl
theorem bp_12 : (Int8.ofInt 12).toInt32 = (12 : Int32) := rfl
theorem bp_13 : (Int8.ofInt 13).toInt32 = (13 : Int32) := rfl
theorem bp_14 : (Int8.ofInt 14).toInt32 = (14 : Int32) := rfl
theorem bp_15 : (Int8.ofInt 15).toInt32 = (15 : Int32) := rfl
theorem bp_16 : (Int8.ofInt 16).toInt32 = (16 : Int32) := rfl
theorem bp_17 : (Int8.ofInt 17).toInt32 = (17 : Int32) := rfl
theorem bp_18 : (Int8.ofInt 18).toInt32 = (18 : Int32) := rfl
theorem bp_19 : (Int8.ofInt 19).toInt32 = (19 : Int32) := rfl
theorem bp_20 : (Int8.ofInt 20).toInt32 = (20 : Int32) := rfl
theorem bp_21 : (Int8.ofInt 21).toInt32 = (21 : Int32) := rfl
theorem bp_22 : (Int8.ofInt 22).toInt32 = (22 : Int32) := rfl
theorem bp_23 : (Int8.ofInt 23).toInt32 = (23 : Int32) := rfl
theorem bp_24 : (Int8.ofInt 24).toInt32 = (24 : Int32) := rfl
theorem bp_25 : (Int8.ofInt 25).toInt32 = (25 : Int32) := rfl
theorem bp_26 : (Int8.ofInt 26).toInt32 = (26 : Int32) := rfl
theorem bp_27 : (Int8.ofInt 27).toInt32 = (27 : Int32) := rfl
theorem bp_28 : (Int8.ofInt 28).toInt32 = (28 : Int32) := rfl
theorem bp_29 : (Int8.ofInt 29).toInt32 = (29 : Int32) := rfl
theorem bp_30 : (Int8.ofInt 30).toInt32 = (30 : Int32) := rfl
theorem bp_31 : (Int8.ofInt 31).toInt32 = (31 : Int32) := rfl
theorem bp_32 : (Int8.ofInt 32).toInt32 = (32 : Int32) := rfl
theorem bp_33 : (Int8.ofInt 33).toInt32 = (33 : Int32) := rfl
theorem bp_34 : (Int8.ofInt 34).toInt32 = (34 : Int32) := rfl
theorem bp_35 : (Int8.ofInt 35).toInt32 = (35 : Int32) := rfl
theorem bp_36 : (Int8.ofInt 36).toInt32 = (36 : Int32) := rfl
theorem bp_37 : (Int8.ofInt 37).toInt32 = (37 : Int32) := rfl
theorem bp_38 : (Int8.ofInt 38).toInt32 = (38 : Int32) := rfl
theorem bp_40 : (Int8.ofInt 40).toInt32 = (40 : Int32) := rfl
theorem bp_41 : (Int8.ofInt 41).toInt32 = (41 : Int32) := rfl
theorem bp_42 : (Int8.ofInt 42).toInt32 = (42 : Int32) := rfl
theorem bp_43 : (Int8.ofInt 43).toInt32 = (43 : Int32) := rfl
theorem bp_44 : (Int8.ofInt 44).toInt32 = (44 : Int32) := rfl
theorem bp_45 : (Int8.ofInt 45).toInt32 = (45 : Int32) := rfl
theorem bp_46 : (Int8.ofInt 46).toInt32 = (46 : Int32) := rfl
theorem bp_47 : (Int8.ofInt 47).toInt32 = (47 : Int32) := rfl
theorem bp_48 : (Int8.ofInt 48).toInt32 = (48 : Int32) := rfl
theorem bp_49 : (Int8.ofInt 49).toInt32 = (49 : Int32) := rfl
theorem bp_50 : (Int8.ofInt 50).toInt32 = (50 : Int32) := rfl
theorem bp_51 : (Int8.ofInt 51).toInt32 = (51 : Int32) := rfl
theorem bp_52 : (Int8.ofInt 52).toInt32 = (52 : Int32) := rfl
theorem bp_53 : (Int8.ofInt 53).toInt32 = (53 : Int32) := rfl
theorem bp_57 : (Int8.ofInt 57).toInt32 = (57 : Int32) := rfl
theorem bp_58 : (Int8.ofInt 58).toInt32 = (58 : Int32) := rfl
theorem bp_59 : (Int8.ofInt 59).toInt32 = (59 : Int32) := rfl
theorem bp_60 : (Int8.ofInt 60).toInt32 = (60 : Int32) := rfl
theorem bp_61 : (Int8.ofInt 61).toInt32 = (61 : Int32) := rfl
theorem bp_62 : (Int8.ofInt 62).toInt32 = (62 : Int32) := rfl
theorem bp_63 : (Int8.ofInt 63).toInt32 = (63 : Int32) := rfl
theorem bp_64 : (Int8.ofInt 64).toInt32 = (64 : Int32) := rfl
theorem bp_91 : (Int8.ofInt 91).toInt32 = (91 : Int32) := rfl
theorem bp_93 : (Int8.ofInt 93).toInt32 = (93 : Int32) := rfl
theorem bp_97 : (Int8.ofInt 97).toInt32 = (97 : Int32) := rfl
theorem bp_100 : (Int8.ofInt 100).toInt32 = (100 : Int32) := rfl
theorem bp_110 : (Int8.ofInt 110).toInt32 = (110 : Int32) := rfl
theorem bp_120 : (Int8.ofInt 120).toInt32 = (120 : Int32) := rfl
theorem bp_122 : (Int8.ofInt 122).toInt32 = (122 : Int32) := rfl
theorem bp_123 : (Int8.ofInt 123).toInt32 = (123 : Int32) := rfl
theorem bp_124 : (Int8.ofInt 124).toInt32 = (124 : Int32) := rfl
theorem bp_125 : (Int8.ofInt 125).toInt32 = (125 : Int32) := rfl
theorem bp_127 : (Int8.ofInt 127).toInt32 = (127 : Int32) := rfl
theorem sp_m20000 : (Int16.ofInt (-20000)).toInt32 = ((-20000) : Int32) := rfl
theorem sp_m10000 : (Int16.ofInt (-10000)).toInt32 = ((-10000) : Int32) := rfl
theorem sp_200 : (Int16.ofInt 200).toInt32 = (200 : Int32) := rfl
theorem sp_201 : (Int16.ofInt 201).toInt32 = (201 : Int32) := rfl
theorem sp_202 : (Int16.ofInt 202).toInt32 = (202 : Int32) := rfl
theorem sp_255 : (Int16.ofInt 255).toInt32 = (255 : Int32) := rfl
theorem sp_256 : (Int16.ofInt 256).toInt32 = (256 : Int32) := rfl
theorem sp_257 : (Int16.ofInt 257).toInt32 = (257 : Int32) := rfl
theorem sp_258 : (Int16.ofInt 258).toInt32 = (258 : Int32) := rfl
theorem sp_259 : (Int16.ofInt 259).toInt32 = (259 : Int32) := rfl
theorem sp_400 : (Int16.ofInt 400).toInt32 = (400 : Int32) := rfl
theorem sp_500 : (Int16.ofInt 500).toInt32 = (500 : Int32) := rfl
theorem sp_600 : (Int16.ofInt 600).toInt32 = (600 : Int32) := rfl
theorem sp_1023 : (Int16.ofInt 1023).toInt32 = (1023 : Int32) := rfl
theorem sp_1600 : (Int16.ofInt 1600).toInt32 = (1600 : Int32) := rfl
theorem sp_2000 : (Int16.ofInt 2000).toInt32 = (2000 : Int32) := rfl
theorem sp_4000 : (Int16.ofInt 4000).toInt32 = (4000 : Int32) := rfl
theorem sp_6000 : (Int16.ofInt 6000).toInt32 = (6000 : Int32) := rfl
theorem sp_6002 : (Int16.ofInt 6002).toInt32 = (6002 : Int32) := rfl
theorem sp_6400 : (Int16.ofInt 6400).toInt32 = (6400 : Int32) := rfl
theorem sp_12003 : (Int16.ofInt 12003).toInt32 = (12003 : Int32) := rfl
theorem sp_20000 : (Int16.ofInt 20000).toInt32 = (20000 : Int32) := rfl
theorem sp_20300 : (Int16.ofInt 20300).toInt32 = (20300 : Int32) := rfl
theorem sp_30000 : (Int16.ofInt 30000).toInt32 = (30000 : Int32) := rfl
theorem ic_m1023 : Int32.ofInt (-1023) = ((-1023) : Int32) := rfl
theorem ic_m21 : Int32.ofInt (-21) = ((-21) : Int32) := rfl
theorem ic_m16 : Int32.ofInt (-16) = ((-16) : Int32) := rfl
theorem ic_m8 : Int32.ofInt (-8) = ((-8) : Int32) := rfl
theorem ic_m4 : Int32.ofInt (-4) = ((-4) : Int32) := rfl
theorem ic_m2 : Int32.ofInt (-2) = ((-2) : Int32) := rfl
theorem ic_m1 : Int32.ofInt (-1) = ((-1) : Int32) := rfl
theorem ic_0 : Int32.ofInt 0 = (0 : Int32) := rfl
theorem ic_1 : Int32.ofInt 1 = (1 : Int32) := rfl
theorem ic_2 : Int32.ofInt 2 = (2 : Int32) := rfl
theorem ic_3 : Int32.ofInt 3 = (3 : Int32) := rfl
theorem ic_4 : Int32.ofInt 4 = (4 : Int32) := rfl
theorem ic_5 : Int32.ofInt 5 = (5 : Int32) := rfl
theorem ic_6 : Int32.ofInt 6 = (6 : Int32) := rfl
theorem ic_8 : Int32.ofInt 8 = (8 : Int32) := rfl
theorem ic_16 : Int32.ofInt 16 = (16 : Int32) := rfl
theorem ct_204 : ([204, 300] : List Nat).contains 204 = true := rfl
theorem ct_300 : ([204, 300] : List Nat).contains 300 = true := rfl
theorem ct_200 : ([200, 201, 301] : List Nat).contains 200 = true := rfl
theorem ct_201 : ([200, 201, 301] : List Nat).contains 201 = true := rfl
theorem ct_301 : ([200, 201, 301] : List Nat).contains 301 = true := rfl
theorem ct_202 : ([202] : List Nat).contains 202 = true := rfl
theorem ct_203 : ([203] : List Nat).contains 203 = true := rfl
theorem ct_205 : ([205] : List Nat).contains 205 = true := rfl
theorem ct_206 : ([206] : List Nat).contains 206 = true := rfl
theorem ct_207 : ([207] : List Nat).contains 207 = true := rfl
theorem ct_210 : ([210, 211, 212, 213, 214, 215, 216, 217, 218] : List Nat).contains 210 = true := rfl
theorem ct_211 : ([210, 211, 212, 213, 214, 215, 216, 217, 218] : List Nat).contains 211 = true := rfl
theorem ct_212 : ([210, 211, 212, 213, 214, 215, 216, 217, 218] : List Nat).contains 212 = true := rfl
theorem ct_213 : ([210, 211, 212, 213, 214, 215, 216, 217, 218] : List Nat).contains 213 = true := rfl
theorem ct_214 : ([210, 211, 212, 213, 214, 215, 216, 217, 218] : List Nat).contains 214 = true := rfl
theorem ct_215 : ([210, 211, 212, 213, 214, 215, 216, 217, 218] : List Nat).contains 215 = true := rfl
theorem ct_216 : ([210, 211, 212, 213, 214, 215, 216, 217, 218] : List Nat).contains 216 = true := rfl
theorem ct_217 : ([210, 211, 212, 213, 214, 215, 216, 217, 218] : List Nat).contains 217 = true := rfl
theorem ct_218 : ([210, 211, 212, 213, 214, 215, 216, 217, 218] : List Nat).contains 218 = true := rfl
theorem ia_200 : isAr 200 = true := rfl
theorem ia_201 : isAr 201 = true := rfl
theorem ia_202 : isAr 202 = true := rfl
theorem ia_203 : isAr 203 = true := rfl
theorem ia_204 : isAr 204 = true := rfl
theorem ia_205 : isAr 205 = true := rfl
theorem ia_206 : isAr 206 = true := rfl
theorem ia_207 : isAr 207 = true := rfl
theorem ia_210 : isAr 210 = true := rfl
theorem ia_211 : isAr 211 = true := rfl
theorem ia_212 : isAr 212 = true := rfl
theorem ia_213 : isAr 213 = true := rfl
theorem ia_214 : isAr 214 = true := rfl
theorem ia_215 : isAr 215 = true := rfl
theorem ia_216 : isAr 216 = true := rfl
theorem ia_217 : isAr 217 = true := rfl
theorem ia_218 : isAr 218 = true := rfl
theorem ia_300 : isAr 300 = true := rfl
theorem ia_301 : isAr 301 = true := rfl
theorem ir_210 : isRA 210 = true := rfl
theorem ir_211 : isRA 211 = true := rfl
theorem ir_212 : isRA 212 = true := rfl
theorem ir_213 : isRA 213 = true := rfl
theorem ir_214 : isRA 214 = true := rfl
theorem ir_215 : isRA 215 = true := rfl
theorem ir_216 : isRA 216 = true := rfl
theorem ir_217 : isRA 217 = true := rfl
theorem ir_218 : isRA 218 = true := rfl

def fxK : List (Nat × Nat × Nat) := [(132, 0, 0), (133, 1, 0), (134, 201, 6000), (135, 204, 600), (136, 204, 600), (137, 207, 200), (138, 210, 37), (139, 2, 0), (140, 211, 100), (141, 212, 100), (142, 204, 100), (143, 207, 100), (144, 207, 100), (145, 204, 100), (146, 207, 20300), (147, 207, 20300), (148, 203, 1299200), (149, 202, 243600), (150, 201, 20300), (151, 200, 20300), (152, 3, 0), (153, 4, 0), (154, 210, 200), (155, 204, 200), (156, 204, 200), (157, 204, 60), (158, 213, 40), (159, 211, 500), (160, 211, 5), (161, 204, 200), (162, 207, 200), (163, 212, 400), (164, 213, 4), (165, 7, 0), (166, 8, 0), (167, 9, 0), (168, 10, 0), (169, 11, 0), (170, 41, 0), (171, 201, 6000), (172, 201, 6002), (173, 204, 6002), (174, 204, 6002), (175, 205, 200), (176, 201, 200), (177, 204, 200), (178, 201, 100), (179, 200, 100), (180, 207, 100), (181, 207, 100), (182, 204, 6400), (183, 204, 100), (184, 205, 100), (185, 201, 40), (186, 204, 40), (187, 204, 1600), (188, 204, 1600), (189, 200, 40), (190, 204, 201), (191, 204, 40), (192, 201, 30000), (193, 201, 30000), (194, 204, 30000), (195, 204, 30000), (196, 204, 30000), (197, 207, 30000), (198, 207, 30000), (199, 204, 64), (200, 204, 100), (201, 204, 100), (202, 204, 30000), (203, 204, 12003), (204, 207, 4000), (205, 207, 4000), (206, 205, 4000), (207, 207, 100), (208, 207, 100), (209, 205, 100), (210, 204, 7), (211, 207, 0), (212, 207, 100), (213, 207, 100), (214, 207, 100), (215, 207, 100), (216, 205, 100), (217, 205, 100), (218, 204, 6400), (219, 200, 100), (220, 205, 1)]
def fxR : List (Nat × Nat × Nat) := [(132, 0, 133), (132, 1, 139), (132, 2, 152), (133, 7, 134), (133, 8, 135), (133, 9, 136), (133, 10, 137), (133, 11, 138), (139, 23, 140), (139, 26, 141), (139, 27, 142), (139, 39, 143), (139, 40, 144), (139, 41, 145), (139, 42, 146), (139, 43, 147), (139, 44, 148), (139, 45, 149), (139, 46, 150), (139, 47, 151), (152, 56, 133), (152, 57, 139), (152, 58, 153), (152, 59, 154), (152, 60, 155), (152, 61, 156), (152, 62, 157), (152, 63, 158), (152, 68, 159), (152, 69, 160), (152, 70, 161), (152, 71, 162), (152, 72, 163), (152, 73, 164), (170, 139, 171), (170, 142, 172), (170, 143, 173), (170, 144, 174), (170, 149, 175), (170, 150, 176), (170, 151, 177), (170, 154, 178), (170, 155, 179), (170, 156, 180), (170, 157, 181), (170, 158, 182), (170, 159, 183), (170, 160, 184), (170, 162, 185), (170, 163, 186), (170, 164, 187), (170, 165, 188), (170, 166, 189), (170, 176, 190), (170, 179, 191), (170, 180, 192), (170, 181, 193), (170, 182, 194), (170, 183, 195), (170, 184, 196), (170, 185, 197), (170, 186, 198), (170, 191, 200), (170, 192, 201), (170, 197, 202), (170, 198, 203), (170, 200, 204), (170, 201, 205), (170, 202, 206), (170, 208, 207), (170, 209, 208), (170, 210, 209), (170, 217, 210), (170, 229, 212), (170, 230, 213), (170, 231, 214), (170, 232, 215), (170, 233, 216), (170, 234, 217), (170, 235, 218), (170, 236, 219), (138, 0, 10), (138, 1, 12), (138, 2, 14), (138, 3, 16), (138, 4, 18), (138, 5, 20), (138, 6, 22), (138, 7, 24), (138, 8, 26), (138, 9, 28), (138, 10, 30), (138, 11, 32), (138, 12, 34), (138, 13, 36), (138, 14, 38), (138, 15, 40), (138, 16, 42), (138, 17, 44), (138, 18, 46), (138, 19, 48), (138, 20, 50), (138, 21, 52), (138, 22, 54), (138, 23, 56), (138, 24, 58), (138, 25, 60), (138, 26, 62), (138, 27, 64), (138, 28, 66), (138, 29, 68), (138, 30, 70), (138, 31, 72), (138, 32, 74), (138, 33, 76), (138, 34, 78), (138, 35, 80), (138, 36, 82), (160, 0, 165), (160, 1, 166), (160, 2, 167), (160, 3, 168), (160, 4, 169)]
/-- what never changes: kinds of the objects that are made at the start, their final references, the texts -/
def FX (h : Hp) : Prop := 221 ≤ nx h ∧ (∀ p ∈ fxK, kd h p.1 = p.2) ∧ (∀ p ∈ fxR, gR h p.1 p.2.1 = some p.2.2) ∧ (kd h 1 = (42, 0) ∧ kd h 2 = (43, 0) ∧ kd h 3 = (44, 0)) ∧ ∀ j, j < 61 → kd h (10 + 2 * j) = (302, 0) ∧ kd h (11 + 2 * j) = (301, (sBy j).length) ∧ gR h (10 + 2 * j) 99 = some (11 + 2 * j) ∧ gI h (10 + 2 * j) 100 = 0 ∧ ∀ k, gI h (11 + 2 * j) k = (sBy j).getD k 0
theorem FX_of {h h' : Hp} (H : FX h) (e1 : nx h' = nx h) (e2 : h'.2.1 = h.2.1) (e3 : h'.2.2.2.2.2.2 = h.2.2.2.2.2.2) (e4 : ∀ b k, b < 132 → gI h' b k = gI h b k) : FX h' := by
  have k1 : ∀ a, kd h' a = kd h a := fun a => congrFun e2 a
  have k2 : ∀ a j, gR h' a j = gR h a j := fun a j => congrFun (congrFun e3 a) j
  obtain ⟨a1, a2, a3, a4, a5⟩ := H
  refine ⟨by rw [e1]; exact a1, fun p hp => by rw [k1]; exact a2 p hp, fun p hp => by rw [k2]; exact a3 p hp, by rw [k1, k1, k1]; exact a4, fun j hj => ?_⟩
  obtain ⟨b1, b2, b3, b4, b5⟩ := a5 j hj
  exact ⟨by rw [k1]; exact b1, by rw [k1]; exact b2, by rw [k2]; exact b3, by rw [e4 _ _ (by omega)]; exact b4, fun k => by rw [e4 _ _ (by omega)]; exact b5 k⟩
/-- references and kinds may change elsewhere -/
theorem FX_of2 {h h' : Hp} (H : FX h) (e1 : nx h ≤ nx h') (e2 : ∀ a, a < 221 → kd h' a = kd h a) (e3 : ∀ a j, (∀ p ∈ fxR, ¬ (p.1 = a ∧ p.2.1 = j)) ∨ 221 ≤ a ∨ gR h' a j = gR h a j) (e5 : ∀ a j, a < 132 → gR h' a j = gR h a j) (e4 : ∀ b k, b < 132 → gI h' b k = gI h b k) : FX h' := by
  obtain ⟨a1, a2, a3, a4, a5⟩ := H
  have q1 : ∀ p ∈ fxK, p.1 < 221 := by decide
  have q2 : ∀ p ∈ fxR, p.1 < 221 := by decide
  refine ⟨by omega, fun p hp => by rw [e2 _ (q1 p hp)]; exact a2 p hp, fun p hp => ?_, by rw [e2 _ (by decide), e2 _ (by decide), e2 _ (by decide)]; exact a4, fun j hj => ?_⟩
  · rcases e3 p.1 p.2.1 with h1 | h1 | h1
    · exact absurd ⟨rfl, rfl⟩ (h1 p hp)
    · exact absurd (q2 p hp) (by omega)
    · rw [h1]; exact a3 p hp
  · obtain ⟨b1, b2, b3, b4, b5⟩ := a5 j hj
    exact ⟨by rw [e2 _ (by omega)]; exact b1, by rw [e2 _ (by omega)]; exact b2, by rw [e5 _ _ (by omega)]; exact b3, by rw [e4 _ _ (by omega)]; exact b4, fun k => by rw [e4 _ _ (by omega)]; exact b5 k⟩
theorem FX_sI {h : Hp} (H : FX h) {a : Nat} (k : Nat) (v : Int32) (ha : 132 ≤ a) : FX (sI h a k v) := FX_of H rfl rfl rfl (fun b j hb => by rw [gI_sI, if_neg (by omega)])
theorem FX_sL {h : Hp} (H : FX h) (a k : Nat) (v : Int64) : FX (sL h a k v) := FX_of H rfl rfl rfl (fun _ _ _ => rfl)
theorem FX_sF {h : Hp} (H : FX h) (a k : Nat) (v : UInt32) : FX (sF h a k v) := FX_of H rfl rfl rfl (fun _ _ _ => rfl)
theorem FX_sD {h : Hp} (H : FX h) (a k : Nat) (v : UInt64) : FX (sD h a k v) := FX_of H rfl rfl rfl (fun _ _ _ => rfl)
theorem FX_sR {h : Hp} (H : FX h) {a k : Nat} (v : Option Nat) (h1 : 132 ≤ a) (h2 : 221 ≤ a ∨ ∀ p ∈ fxR, ¬ (p.1 = a ∧ p.2.1 = k)) : FX (sR h a k v) := by
  refine FX_of2 H (Nat.le_refl _) (fun _ _ => rfl) (fun b j => ?_) (fun b j hb => by rw [gR_sR, if_neg (by omega)]) (fun _ _ _ => rfl)
  by_cases hx : b = a ∧ j = k
  · obtain ⟨rfl, rfl⟩ := hx
    rcases h2 with h2 | h2
    · exact Or.inr (Or.inl h2)
    · exact Or.inl h2
  · exact Or.inr (Or.inr (by rw [gR_sR, if_neg hx]))
theorem FX_alo {h : Hp} (H : FX h) (k n dc ds : Nat) : FX (alo h k n dc ds) := by
  have h1 := H.1
  exact FX_of2 H (by rw [nx_alo]; omega) (fun a ha => by rw [kd_alo, if_neg (by omega)]) (fun a j => by
    by_cases hx : 221 ≤ a
    · exact Or.inr (Or.inl hx)
    · exact Or.inr (Or.inr (by rw [gR_alo, if_neg (by omega)]))) (fun a j ha => by rw [gR_alo, if_neg (by omega)]) (fun a j ha => by rw [gI_alo, if_neg (by omega)])
theorem fx_nx {h : Hp} (H : FX h) : 221 ≤ nx h := H.1
theorem fk_1 {h : Hp} (H : FX h) : kd h 1 = (42, 0) := H.2.2.2.1.1
theorem fk_2 {h : Hp} (H : FX h) : kd h 2 = (43, 0) := H.2.2.2.1.2.1
theorem fk_3 {h : Hp} (H : FX h) : kd h 3 = (44, 0) := H.2.2.2.1.2.2
theorem fk_132 {h : Hp} (H : FX h) : kd h 132 = (0, 0) := H.2.1 (132, 0, 0) (by decide)
theorem fk_133 {h : Hp} (H : FX h) : kd h 133 = (1, 0) := H.2.1 (133, 1, 0) (by decide)
theorem fk_134 {h : Hp} (H : FX h) : kd h 134 = (201, 6000) := H.2.1 (134, 201, 6000) (by decide)
theorem fk_135 {h : Hp} (H : FX h) : kd h 135 = (204, 600) := H.2.1 (135, 204, 600) (by decide)
theorem fk_136 {h : Hp} (H : FX h) : kd h 136 = (204, 600) := H.2.1 (136, 204, 600) (by decide)
theorem fk_137 {h : Hp} (H : FX h) : kd h 137 = (207, 200) := H.2.1 (137, 207, 200) (by decide)
theorem fk_138 {h : Hp} (H : FX h) : kd h 138 = (210, 37) := H.2.1 (138, 210, 37) (by decide)
theorem fk_139 {h : Hp} (H : FX h) : kd h 139 = (2, 0) := H.2.1 (139, 2, 0) (by decide)
theorem fk_140 {h : Hp} (H : FX h) : kd h 140 = (211, 100) := H.2.1 (140, 211, 100) (by decide)
theorem fk_141 {h : Hp} (H : FX h) : kd h 141 = (212, 100) := H.2.1 (141, 212, 100) (by decide)
theorem fk_142 {h : Hp} (H : FX h) : kd h 142 = (204, 100) := H.2.1 (142, 204, 100) (by decide)
theorem fk_143 {h : Hp} (H : FX h) : kd h 143 = (207, 100) := H.2.1 (143, 207, 100) (by decide)
theorem fk_144 {h : Hp} (H : FX h) : kd h 144 = (207, 100) := H.2.1 (144, 207, 100) (by decide)
theorem fk_145 {h : Hp} (H : FX h) : kd h 145 = (204, 100) := H.2.1 (145, 204, 100) (by decide)
theorem fk_146 {h : Hp} (H : FX h) : kd h 146 = (207, 20300) := H.2.1 (146, 207, 20300) (by decide)
theorem fk_147 {h : Hp} (H : FX h) : kd h 147 = (207, 20300) := H.2.1 (147, 207, 20300) (by decide)
theorem fk_148 {h : Hp} (H : FX h) : kd h 148 = (203, 1299200) := H.2.1 (148, 203, 1299200) (by decide)
theorem fk_149 {h : Hp} (H : FX h) : kd h 149 = (202, 243600) := H.2.1 (149, 202, 243600) (by decide)
theorem fk_150 {h : Hp} (H : FX h) : kd h 150 = (201, 20300) := H.2.1 (150, 201, 20300) (by decide)
theorem fk_151 {h : Hp} (H : FX h) : kd h 151 = (200, 20300) := H.2.1 (151, 200, 20300) (by decide)
theorem fk_152 {h : Hp} (H : FX h) : kd h 152 = (3, 0) := H.2.1 (152, 3, 0) (by decide)
theorem fk_153 {h : Hp} (H : FX h) : kd h 153 = (4, 0) := H.2.1 (153, 4, 0) (by decide)
theorem fk_154 {h : Hp} (H : FX h) : kd h 154 = (210, 200) := H.2.1 (154, 210, 200) (by decide)
theorem fk_155 {h : Hp} (H : FX h) : kd h 155 = (204, 200) := H.2.1 (155, 204, 200) (by decide)
theorem fk_156 {h : Hp} (H : FX h) : kd h 156 = (204, 200) := H.2.1 (156, 204, 200) (by decide)
theorem fk_157 {h : Hp} (H : FX h) : kd h 157 = (204, 60) := H.2.1 (157, 204, 60) (by decide)
theorem fk_158 {h : Hp} (H : FX h) : kd h 158 = (213, 40) := H.2.1 (158, 213, 40) (by decide)
theorem fk_159 {h : Hp} (H : FX h) : kd h 159 = (211, 500) := H.2.1 (159, 211, 500) (by decide)
theorem fk_160 {h : Hp} (H : FX h) : kd h 160 = (211, 5) := H.2.1 (160, 211, 5) (by decide)
theorem fk_161 {h : Hp} (H : FX h) : kd h 161 = (204, 200) := H.2.1 (161, 204, 200) (by decide)
theorem fk_162 {h : Hp} (H : FX h) : kd h 162 = (207, 200) := H.2.1 (162, 207, 200) (by decide)
theorem fk_163 {h : Hp} (H : FX h) : kd h 163 = (212, 400) := H.2.1 (163, 212, 400) (by decide)
theorem fk_164 {h : Hp} (H : FX h) : kd h 164 = (213, 4) := H.2.1 (164, 213, 4) (by decide)
theorem fk_165 {h : Hp} (H : FX h) : kd h 165 = (7, 0) := H.2.1 (165, 7, 0) (by decide)
theorem fk_166 {h : Hp} (H : FX h) : kd h 166 = (8, 0) := H.2.1 (166, 8, 0) (by decide)
theorem fk_167 {h : Hp} (H : FX h) : kd h 167 = (9, 0) := H.2.1 (167, 9, 0) (by decide)
theorem fk_168 {h : Hp} (H : FX h) : kd h 168 = (10, 0) := H.2.1 (168, 10, 0) (by decide)
theorem fk_169 {h : Hp} (H : FX h) : kd h 169 = (11, 0) := H.2.1 (169, 11, 0) (by decide)
theorem fk_170 {h : Hp} (H : FX h) : kd h 170 = (41, 0) := H.2.1 (170, 41, 0) (by decide)
theorem fk_171 {h : Hp} (H : FX h) : kd h 171 = (201, 6000) := H.2.1 (171, 201, 6000) (by decide)
theorem fk_172 {h : Hp} (H : FX h) : kd h 172 = (201, 6002) := H.2.1 (172, 201, 6002) (by decide)
theorem fk_173 {h : Hp} (H : FX h) : kd h 173 = (204, 6002) := H.2.1 (173, 204, 6002) (by decide)
theorem fk_174 {h : Hp} (H : FX h) : kd h 174 = (204, 6002) := H.2.1 (174, 204, 6002) (by decide)
theorem fk_175 {h : Hp} (H : FX h) : kd h 175 = (205, 200) := H.2.1 (175, 205, 200) (by decide)
theorem fk_176 {h : Hp} (H : FX h) : kd h 176 = (201, 200) := H.2.1 (176, 201, 200) (by decide)
theorem fk_177 {h : Hp} (H : FX h) : kd h 177 = (204, 200) := H.2.1 (177, 204, 200) (by decide)
theorem fk_178 {h : Hp} (H : FX h) : kd h 178 = (201, 100) := H.2.1 (178, 201, 100) (by decide)
theorem fk_179 {h : Hp} (H : FX h) : kd h 179 = (200, 100) := H.2.1 (179, 200, 100) (by decide)
theorem fk_180 {h : Hp} (H : FX h) : kd h 180 = (207, 100) := H.2.1 (180, 207, 100) (by decide)
theorem fk_181 {h : Hp} (H : FX h) : kd h 181 = (207, 100) := H.2.1 (181, 207, 100) (by decide)
theorem fk_182 {h : Hp} (H : FX h) : kd h 182 = (204, 6400) := H.2.1 (182, 204, 6400) (by decide)
theorem fk_183 {h : Hp} (H : FX h) : kd h 183 = (204, 100) := H.2.1 (183, 204, 100) (by decide)
theorem fk_184 {h : Hp} (H : FX h) : kd h 184 = (205, 100) := H.2.1 (184, 205, 100) (by decide)
theorem fk_185 {h : Hp} (H : FX h) : kd h 185 = (201, 40) := H.2.1 (185, 201, 40) (by decide)
theorem fk_186 {h : Hp} (H : FX h) : kd h 186 = (204, 40) := H.2.1 (186, 204, 40) (by decide)
theorem fk_187 {h : Hp} (H : FX h) : kd h 187 = (204, 1600) := H.2.1 (187, 204, 1600) (by decide)
theorem fk_188 {h : Hp} (H : FX h) : kd h 188 = (204, 1600) := H.2.1 (188, 204, 1600) (by decide)
theorem fk_189 {h : Hp} (H : FX h) : kd h 189 = (200, 40) := H.2.1 (189, 200, 40) (by decide)
theorem fk_190 {h : Hp} (H : FX h) : kd h 190 = (204, 201) := H.2.1 (190, 204, 201) (by decide)
theorem fk_191 {h : Hp} (H : FX h) : kd h 191 = (204, 40) := H.2.1 (191, 204, 40) (by decide)
theorem fk_192 {h : Hp} (H : FX h) : kd h 192 = (201, 30000) := H.2.1 (192, 201, 30000) (by decide)
theorem fk_193 {h : Hp} (H : FX h) : kd h 193 = (201, 30000) := H.2.1 (193, 201, 30000) (by decide)
theorem fk_194 {h : Hp} (H : FX h) : kd h 194 = (204, 30000) := H.2.1 (194, 204, 30000) (by decide)
theorem fk_195 {h : Hp} (H : FX h) : kd h 195 = (204, 30000) := H.2.1 (195, 204, 30000) (by decide)
theorem fk_196 {h : Hp} (H : FX h) : kd h 196 = (204, 30000) := H.2.1 (196, 204, 30000) (by decide)
theorem fk_197 {h : Hp} (H : FX h) : kd h 197 = (207, 30000) := H.2.1 (197, 207, 30000) (by decide)
theorem fk_198 {h : Hp} (H : FX h) : kd h 198 = (207, 30000) := H.2.1 (198, 207, 30000) (by decide)
theorem fk_199 {h : Hp} (H : FX h) : kd h 199 = (204, 64) := H.2.1 (199, 204, 64) (by decide)
theorem fk_200 {h : Hp} (H : FX h) : kd h 200 = (204, 100) := H.2.1 (200, 204, 100) (by decide)
theorem fk_201 {h : Hp} (H : FX h) : kd h 201 = (204, 100) := H.2.1 (201, 204, 100) (by decide)
theorem fk_202 {h : Hp} (H : FX h) : kd h 202 = (204, 30000) := H.2.1 (202, 204, 30000) (by decide)
theorem fk_203 {h : Hp} (H : FX h) : kd h 203 = (204, 12003) := H.2.1 (203, 204, 12003) (by decide)
theorem fk_204 {h : Hp} (H : FX h) : kd h 204 = (207, 4000) := H.2.1 (204, 207, 4000) (by decide)
theorem fk_205 {h : Hp} (H : FX h) : kd h 205 = (207, 4000) := H.2.1 (205, 207, 4000) (by decide)
theorem fk_206 {h : Hp} (H : FX h) : kd h 206 = (205, 4000) := H.2.1 (206, 205, 4000) (by decide)
theorem fk_207 {h : Hp} (H : FX h) : kd h 207 = (207, 100) := H.2.1 (207, 207, 100) (by decide)
theorem fk_208 {h : Hp} (H : FX h) : kd h 208 = (207, 100) := H.2.1 (208, 207, 100) (by decide)
theorem fk_209 {h : Hp} (H : FX h) : kd h 209 = (205, 100) := H.2.1 (209, 205, 100) (by decide)
theorem fk_210 {h : Hp} (H : FX h) : kd h 210 = (204, 7) := H.2.1 (210, 204, 7) (by decide)
theorem fk_211 {h : Hp} (H : FX h) : kd h 211 = (207, 0) := H.2.1 (211, 207, 0) (by decide)
theorem fk_212 {h : Hp} (H : FX h) : kd h 212 = (207, 100) := H.2.1 (212, 207, 100) (by decide)
theorem fk_213 {h : Hp} (H : FX h) : kd h 213 = (207, 100) := H.2.1 (213, 207, 100) (by decide)
theorem fk_214 {h : Hp} (H : FX h) : kd h 214 = (207, 100) := H.2.1 (214, 207, 100) (by decide)
theorem fk_215 {h : Hp} (H : FX h) : kd h 215 = (207, 100) := H.2.1 (215, 207, 100) (by decide)
theorem fk_216 {h : Hp} (H : FX h) : kd h 216 = (205, 100) := H.2.1 (216, 205, 100) (by decide)
theorem fk_217 {h : Hp} (H : FX h) : kd h 217 = (205, 100) := H.2.1 (217, 205, 100) (by decide)
theorem fk_218 {h : Hp} (H : FX h) : kd h 218 = (204, 6400) := H.2.1 (218, 204, 6400) (by decide)
theorem fk_219 {h : Hp} (H : FX h) : kd h 219 = (200, 100) := H.2.1 (219, 200, 100) (by decide)
theorem fk_220 {h : Hp} (H : FX h) : kd h 220 = (205, 1) := H.2.1 (220, 205, 1) (by decide)
theorem fr_132_0 {h : Hp} (H : FX h) : gR h 132 0 = some 133 := H.2.2.1 (132, 0, 133) (by decide)
theorem fr_132_1 {h : Hp} (H : FX h) : gR h 132 1 = some 139 := H.2.2.1 (132, 1, 139) (by decide)
theorem fr_132_2 {h : Hp} (H : FX h) : gR h 132 2 = some 152 := H.2.2.1 (132, 2, 152) (by decide)
theorem fr_133_7 {h : Hp} (H : FX h) : gR h 133 7 = some 134 := H.2.2.1 (133, 7, 134) (by decide)
theorem fr_133_8 {h : Hp} (H : FX h) : gR h 133 8 = some 135 := H.2.2.1 (133, 8, 135) (by decide)
theorem fr_133_9 {h : Hp} (H : FX h) : gR h 133 9 = some 136 := H.2.2.1 (133, 9, 136) (by decide)
theorem fr_133_10 {h : Hp} (H : FX h) : gR h 133 10 = some 137 := H.2.2.1 (133, 10, 137) (by decide)
theorem fr_133_11 {h : Hp} (H : FX h) : gR h 133 11 = some 138 := H.2.2.1 (133, 11, 138) (by decide)
theorem fr_139_23 {h : Hp} (H : FX h) : gR h 139 23 = some 140 := H.2.2.1 (139, 23, 140) (by decide)
theorem fr_139_26 {h : Hp} (H : FX h) : gR h 139 26 = some 141 := H.2.2.1 (139, 26, 141) (by decide)
theorem fr_139_27 {h : Hp} (H : FX h) : gR h 139 27 = some 142 := H.2.2.1 (139, 27, 142) (by decide)
theorem fr_139_39 {h : Hp} (H : FX h) : gR h 139 39 = some 143 := H.2.2.1 (139, 39, 143) (by decide)
theorem fr_139_40 {h : Hp} (H : FX h) : gR h 139 40 = some 144 := H.2.2.1 (139, 40, 144) (by decide)
theorem fr_139_41 {h : Hp} (H : FX h) : gR h 139 41 = some 145 := H.2.2.1 (139, 41, 145) (by decide)
theorem fr_139_42 {h : Hp} (H : FX h) : gR h 139 42 = some 146 := H.2.2.1 (139, 42, 146) (by decide)
theorem fr_139_43 {h : Hp} (H : FX h) : gR h 139 43 = some 147 := H.2.2.1 (139, 43, 147) (by decide)
theorem fr_139_44 {h : Hp} (H : FX h) : gR h 139 44 = some 148 := H.2.2.1 (139, 44, 148) (by decide)
theorem fr_139_45 {h : Hp} (H : FX h) : gR h 139 45 = some 149 := H.2.2.1 (139, 45, 149) (by decide)
theorem fr_139_46 {h : Hp} (H : FX h) : gR h 139 46 = some 150 := H.2.2.1 (139, 46, 150) (by decide)
theorem fr_139_47 {h : Hp} (H : FX h) : gR h 139 47 = some 151 := H.2.2.1 (139, 47, 151) (by decide)
theorem fr_152_56 {h : Hp} (H : FX h) : gR h 152 56 = some 133 := H.2.2.1 (152, 56, 133) (by decide)
theorem fr_152_57 {h : Hp} (H : FX h) : gR h 152 57 = some 139 := H.2.2.1 (152, 57, 139) (by decide)
theorem fr_152_58 {h : Hp} (H : FX h) : gR h 152 58 = some 153 := H.2.2.1 (152, 58, 153) (by decide)
theorem fr_152_59 {h : Hp} (H : FX h) : gR h 152 59 = some 154 := H.2.2.1 (152, 59, 154) (by decide)
theorem fr_152_60 {h : Hp} (H : FX h) : gR h 152 60 = some 155 := H.2.2.1 (152, 60, 155) (by decide)
theorem fr_152_61 {h : Hp} (H : FX h) : gR h 152 61 = some 156 := H.2.2.1 (152, 61, 156) (by decide)
theorem fr_152_62 {h : Hp} (H : FX h) : gR h 152 62 = some 157 := H.2.2.1 (152, 62, 157) (by decide)
theorem fr_152_63 {h : Hp} (H : FX h) : gR h 152 63 = some 158 := H.2.2.1 (152, 63, 158) (by decide)
theorem fr_152_68 {h : Hp} (H : FX h) : gR h 152 68 = some 159 := H.2.2.1 (152, 68, 159) (by decide)
theorem fr_152_69 {h : Hp} (H : FX h) : gR h 152 69 = some 160 := H.2.2.1 (152, 69, 160) (by decide)
theorem fr_152_70 {h : Hp} (H : FX h) : gR h 152 70 = some 161 := H.2.2.1 (152, 70, 161) (by decide)
theorem fr_152_71 {h : Hp} (H : FX h) : gR h 152 71 = some 162 := H.2.2.1 (152, 71, 162) (by decide)
theorem fr_152_72 {h : Hp} (H : FX h) : gR h 152 72 = some 163 := H.2.2.1 (152, 72, 163) (by decide)
theorem fr_152_73 {h : Hp} (H : FX h) : gR h 152 73 = some 164 := H.2.2.1 (152, 73, 164) (by decide)
theorem fr_170_139 {h : Hp} (H : FX h) : gR h 170 139 = some 171 := H.2.2.1 (170, 139, 171) (by decide)
theorem fr_170_142 {h : Hp} (H : FX h) : gR h 170 142 = some 172 := H.2.2.1 (170, 142, 172) (by decide)
theorem fr_170_143 {h : Hp} (H : FX h) : gR h 170 143 = some 173 := H.2.2.1 (170, 143, 173) (by decide)
theorem fr_170_144 {h : Hp} (H : FX h) : gR h 170 144 = some 174 := H.2.2.1 (170, 144, 174) (by decide)
theorem fr_170_149 {h : Hp} (H : FX h) : gR h 170 149 = some 175 := H.2.2.1 (170, 149, 175) (by decide)
theorem fr_170_150 {h : Hp} (H : FX h) : gR h 170 150 = some 176 := H.2.2.1 (170, 150, 176) (by decide)
theorem fr_170_151 {h : Hp} (H : FX h) : gR h 170 151 = some 177 := H.2.2.1 (170, 151, 177) (by decide)
theorem fr_170_154 {h : Hp} (H : FX h) : gR h 170 154 = some 178 := H.2.2.1 (170, 154, 178) (by decide)
theorem fr_170_155 {h : Hp} (H : FX h) : gR h 170 155 = some 179 := H.2.2.1 (170, 155, 179) (by decide)
theorem fr_170_156 {h : Hp} (H : FX h) : gR h 170 156 = some 180 := H.2.2.1 (170, 156, 180) (by decide)
theorem fr_170_157 {h : Hp} (H : FX h) : gR h 170 157 = some 181 := H.2.2.1 (170, 157, 181) (by decide)
theorem fr_170_158 {h : Hp} (H : FX h) : gR h 170 158 = some 182 := H.2.2.1 (170, 158, 182) (by decide)
theorem fr_170_159 {h : Hp} (H : FX h) : gR h 170 159 = some 183 := H.2.2.1 (170, 159, 183) (by decide)
theorem fr_170_160 {h : Hp} (H : FX h) : gR h 170 160 = some 184 := H.2.2.1 (170, 160, 184) (by decide)
theorem fr_170_162 {h : Hp} (H : FX h) : gR h 170 162 = some 185 := H.2.2.1 (170, 162, 185) (by decide)
theorem fr_170_163 {h : Hp} (H : FX h) : gR h 170 163 = some 186 := H.2.2.1 (170, 163, 186) (by decide)
theorem fr_170_164 {h : Hp} (H : FX h) : gR h 170 164 = some 187 := H.2.2.1 (170, 164, 187) (by decide)
theorem fr_170_165 {h : Hp} (H : FX h) : gR h 170 165 = some 188 := H.2.2.1 (170, 165, 188) (by decide)
theorem fr_170_166 {h : Hp} (H : FX h) : gR h 170 166 = some 189 := H.2.2.1 (170, 166, 189) (by decide)
theorem fr_170_176 {h : Hp} (H : FX h) : gR h 170 176 = some 190 := H.2.2.1 (170, 176, 190) (by decide)
theorem fr_170_179 {h : Hp} (H : FX h) : gR h 170 179 = some 191 := H.2.2.1 (170, 179, 191) (by decide)
theorem fr_170_180 {h : Hp} (H : FX h) : gR h 170 180 = some 192 := H.2.2.1 (170, 180, 192) (by decide)
theorem fr_170_181 {h : Hp} (H : FX h) : gR h 170 181 = some 193 := H.2.2.1 (170, 181, 193) (by decide)
theorem fr_170_182 {h : Hp} (H : FX h) : gR h 170 182 = some 194 := H.2.2.1 (170, 182, 194) (by decide)
theorem fr_170_183 {h : Hp} (H : FX h) : gR h 170 183 = some 195 := H.2.2.1 (170, 183, 195) (by decide)
theorem fr_170_184 {h : Hp} (H : FX h) : gR h 170 184 = some 196 := H.2.2.1 (170, 184, 196) (by decide)
theorem fr_170_185 {h : Hp} (H : FX h) : gR h 170 185 = some 197 := H.2.2.1 (170, 185, 197) (by decide)
theorem fr_170_186 {h : Hp} (H : FX h) : gR h 170 186 = some 198 := H.2.2.1 (170, 186, 198) (by decide)
theorem fr_170_191 {h : Hp} (H : FX h) : gR h 170 191 = some 200 := H.2.2.1 (170, 191, 200) (by decide)
theorem fr_170_192 {h : Hp} (H : FX h) : gR h 170 192 = some 201 := H.2.2.1 (170, 192, 201) (by decide)
theorem fr_170_197 {h : Hp} (H : FX h) : gR h 170 197 = some 202 := H.2.2.1 (170, 197, 202) (by decide)
theorem fr_170_198 {h : Hp} (H : FX h) : gR h 170 198 = some 203 := H.2.2.1 (170, 198, 203) (by decide)
theorem fr_170_200 {h : Hp} (H : FX h) : gR h 170 200 = some 204 := H.2.2.1 (170, 200, 204) (by decide)
theorem fr_170_201 {h : Hp} (H : FX h) : gR h 170 201 = some 205 := H.2.2.1 (170, 201, 205) (by decide)
theorem fr_170_202 {h : Hp} (H : FX h) : gR h 170 202 = some 206 := H.2.2.1 (170, 202, 206) (by decide)
theorem fr_170_208 {h : Hp} (H : FX h) : gR h 170 208 = some 207 := H.2.2.1 (170, 208, 207) (by decide)
theorem fr_170_209 {h : Hp} (H : FX h) : gR h 170 209 = some 208 := H.2.2.1 (170, 209, 208) (by decide)
theorem fr_170_210 {h : Hp} (H : FX h) : gR h 170 210 = some 209 := H.2.2.1 (170, 210, 209) (by decide)
theorem fr_170_217 {h : Hp} (H : FX h) : gR h 170 217 = some 210 := H.2.2.1 (170, 217, 210) (by decide)
theorem fr_170_229 {h : Hp} (H : FX h) : gR h 170 229 = some 212 := H.2.2.1 (170, 229, 212) (by decide)
theorem fr_170_230 {h : Hp} (H : FX h) : gR h 170 230 = some 213 := H.2.2.1 (170, 230, 213) (by decide)
theorem fr_170_231 {h : Hp} (H : FX h) : gR h 170 231 = some 214 := H.2.2.1 (170, 231, 214) (by decide)
theorem fr_170_232 {h : Hp} (H : FX h) : gR h 170 232 = some 215 := H.2.2.1 (170, 232, 215) (by decide)
theorem fr_170_233 {h : Hp} (H : FX h) : gR h 170 233 = some 216 := H.2.2.1 (170, 233, 216) (by decide)
theorem fr_170_234 {h : Hp} (H : FX h) : gR h 170 234 = some 217 := H.2.2.1 (170, 234, 217) (by decide)
theorem fr_170_235 {h : Hp} (H : FX h) : gR h 170 235 = some 218 := H.2.2.1 (170, 235, 218) (by decide)
theorem fr_170_236 {h : Hp} (H : FX h) : gR h 170 236 = some 219 := H.2.2.1 (170, 236, 219) (by decide)
theorem fr_138_0 {h : Hp} (H : FX h) : gR h 138 0 = some 10 := H.2.2.1 (138, 0, 10) (by decide)
theorem fr_138_1 {h : Hp} (H : FX h) : gR h 138 1 = some 12 := H.2.2.1 (138, 1, 12) (by decide)
theorem fr_138_2 {h : Hp} (H : FX h) : gR h 138 2 = some 14 := H.2.2.1 (138, 2, 14) (by decide)
theorem fr_138_3 {h : Hp} (H : FX h) : gR h 138 3 = some 16 := H.2.2.1 (138, 3, 16) (by decide)
theorem fr_138_4 {h : Hp} (H : FX h) : gR h 138 4 = some 18 := H.2.2.1 (138, 4, 18) (by decide)
theorem fr_138_5 {h : Hp} (H : FX h) : gR h 138 5 = some 20 := H.2.2.1 (138, 5, 20) (by decide)
theorem fr_138_6 {h : Hp} (H : FX h) : gR h 138 6 = some 22 := H.2.2.1 (138, 6, 22) (by decide)
theorem fr_138_7 {h : Hp} (H : FX h) : gR h 138 7 = some 24 := H.2.2.1 (138, 7, 24) (by decide)
theorem fr_138_8 {h : Hp} (H : FX h) : gR h 138 8 = some 26 := H.2.2.1 (138, 8, 26) (by decide)
theorem fr_138_9 {h : Hp} (H : FX h) : gR h 138 9 = some 28 := H.2.2.1 (138, 9, 28) (by decide)
theorem fr_138_10 {h : Hp} (H : FX h) : gR h 138 10 = some 30 := H.2.2.1 (138, 10, 30) (by decide)
theorem fr_138_11 {h : Hp} (H : FX h) : gR h 138 11 = some 32 := H.2.2.1 (138, 11, 32) (by decide)
theorem fr_138_12 {h : Hp} (H : FX h) : gR h 138 12 = some 34 := H.2.2.1 (138, 12, 34) (by decide)
theorem fr_138_13 {h : Hp} (H : FX h) : gR h 138 13 = some 36 := H.2.2.1 (138, 13, 36) (by decide)
theorem fr_138_14 {h : Hp} (H : FX h) : gR h 138 14 = some 38 := H.2.2.1 (138, 14, 38) (by decide)
theorem fr_138_15 {h : Hp} (H : FX h) : gR h 138 15 = some 40 := H.2.2.1 (138, 15, 40) (by decide)
theorem fr_138_16 {h : Hp} (H : FX h) : gR h 138 16 = some 42 := H.2.2.1 (138, 16, 42) (by decide)
theorem fr_138_17 {h : Hp} (H : FX h) : gR h 138 17 = some 44 := H.2.2.1 (138, 17, 44) (by decide)
theorem fr_138_18 {h : Hp} (H : FX h) : gR h 138 18 = some 46 := H.2.2.1 (138, 18, 46) (by decide)
theorem fr_138_19 {h : Hp} (H : FX h) : gR h 138 19 = some 48 := H.2.2.1 (138, 19, 48) (by decide)
theorem fr_138_20 {h : Hp} (H : FX h) : gR h 138 20 = some 50 := H.2.2.1 (138, 20, 50) (by decide)
theorem fr_138_21 {h : Hp} (H : FX h) : gR h 138 21 = some 52 := H.2.2.1 (138, 21, 52) (by decide)
theorem fr_138_22 {h : Hp} (H : FX h) : gR h 138 22 = some 54 := H.2.2.1 (138, 22, 54) (by decide)
theorem fr_138_23 {h : Hp} (H : FX h) : gR h 138 23 = some 56 := H.2.2.1 (138, 23, 56) (by decide)
theorem fr_138_24 {h : Hp} (H : FX h) : gR h 138 24 = some 58 := H.2.2.1 (138, 24, 58) (by decide)
theorem fr_138_25 {h : Hp} (H : FX h) : gR h 138 25 = some 60 := H.2.2.1 (138, 25, 60) (by decide)
theorem fr_138_26 {h : Hp} (H : FX h) : gR h 138 26 = some 62 := H.2.2.1 (138, 26, 62) (by decide)
theorem fr_138_27 {h : Hp} (H : FX h) : gR h 138 27 = some 64 := H.2.2.1 (138, 27, 64) (by decide)
theorem fr_138_28 {h : Hp} (H : FX h) : gR h 138 28 = some 66 := H.2.2.1 (138, 28, 66) (by decide)
theorem fr_138_29 {h : Hp} (H : FX h) : gR h 138 29 = some 68 := H.2.2.1 (138, 29, 68) (by decide)
theorem fr_138_30 {h : Hp} (H : FX h) : gR h 138 30 = some 70 := H.2.2.1 (138, 30, 70) (by decide)
theorem fr_138_31 {h : Hp} (H : FX h) : gR h 138 31 = some 72 := H.2.2.1 (138, 31, 72) (by decide)
theorem fr_138_32 {h : Hp} (H : FX h) : gR h 138 32 = some 74 := H.2.2.1 (138, 32, 74) (by decide)
theorem fr_138_33 {h : Hp} (H : FX h) : gR h 138 33 = some 76 := H.2.2.1 (138, 33, 76) (by decide)
theorem fr_138_34 {h : Hp} (H : FX h) : gR h 138 34 = some 78 := H.2.2.1 (138, 34, 78) (by decide)
theorem fr_138_35 {h : Hp} (H : FX h) : gR h 138 35 = some 80 := H.2.2.1 (138, 35, 80) (by decide)
theorem fr_138_36 {h : Hp} (H : FX h) : gR h 138 36 = some 82 := H.2.2.1 (138, 36, 82) (by decide)
theorem fr_160_0 {h : Hp} (H : FX h) : gR h 160 0 = some 165 := H.2.2.1 (160, 0, 165) (by decide)
theorem fr_160_1 {h : Hp} (H : FX h) : gR h 160 1 = some 166 := H.2.2.1 (160, 1, 166) (by decide)
theorem fr_160_2 {h : Hp} (H : FX h) : gR h 160 2 = some 167 := H.2.2.1 (160, 2, 167) (by decide)
theorem fr_160_3 {h : Hp} (H : FX h) : gR h 160 3 = some 168 := H.2.2.1 (160, 3, 168) (by decide)
theorem fr_160_4 {h : Hp} (H : FX h) : gR h 160 4 = some 169 := H.2.2.1 (160, 4, 169) (by decide)

theorem i3_succ (p : Nat) : i3 p + 1 = i3 (p + 1) := i3_add p 1
theorem i3_eq0 {p : Nat} (h : p < 2147483648) : (i3 p = 0) ↔ p = 0 := i3_inj h (by decide)
theorem i3_0 : i3 0 = 0 := rfl
theorem dc0 : FP.dconst0 = (0 : UInt64) := rfl
theorem dc1 : FP.dconst1 = (4607182418800017408 : UInt64) := rfl
theorem lit_eq (a b : Nat) : ((no_index (OfNat.ofNat a) : Int32) = no_index (OfNat.ofNat b)) = (a % 4294967296 = b % 4294967296) := by
  have e : ∀ n : Nat, (Int32.ofNat n).toBitVec.toNat = n % 4294967296 := fun n => by
    rw [Int32.toBitVec_ofNat', BitVec.toNat_ofNat]
  apply propext
  constructor
  · intro h
    have h : Int32.ofNat a = Int32.ofNat b := h
    rw [← e a, ← e b, h]
  · intro h
    show Int32.ofNat a = Int32.ofNat b
    apply Int32.toBitVec_inj.mp
    apply BitVec.eq_of_toNat_eq
    rw [e, e, h]
theorem lit_m1 (b : Nat) (h : b < 2147483648) : ((-1 : Int32) = no_index (OfNat.ofNat b)) = False := by
  apply eq_false
  intro h9
  have h9 : (-1 : Int32) = i3 b := h9
  have := congrArg Int32.toInt h9
  rw [i3_toInt h] at this
  have h1 : (-1 : Int32).toInt = -1 := rfl
  omega
theorem lit_m2 (b : Nat) (h : b < 2147483648) : ((no_index (OfNat.ofNat b) : Int32) = -1) = False := by
  rw [← lit_m1 b h]
  exact propext ⟨Eq.symm, Eq.symm⟩
theorem nb_0 : (Int32.toInt8 0).toInt32 = (0 : Int32) := rfl
theorem nb_1 : (Int32.toInt8 1).toInt32 = (1 : Int32) := rfl
