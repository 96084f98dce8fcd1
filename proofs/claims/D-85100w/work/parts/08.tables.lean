/-! TABLES: printed by gen/tables.py out of the names and words -/
set_option maxRecDepth 100000
def tl {α : Type} : List (Nat × α) → Nat → Option α
  | [], _ => none
  | (a, b) :: t, k => if a = k then some b else tl t k
def tb {α : Type} : List (Nat × List (Nat × α)) → Nat → Nat → Option α
  | [], _, _ => none
  | (a, l) :: t, o, i => if a = o then tl l i else tb t o i
def fldsL (k : Nat) : List Nat := if k < 23 then (if k < 11 then (if k < 5 then (if k < 2 then (if k < 1 then (if k = 0 then [0, 1, 2, 3, 4, 5, 6] else []) else (if k = 1 then [7, 8, 9, 10, 11, 12, 13, 14, 15, 16, 17, 18, 19, 20, 21, 22] else [])) else (if k < 3 then (if k = 2 then [23, 24, 25, 26, 27, 28, 29, 30, 31, 32, 33, 34, 35, 36, 37, 38, 39, 40, 41, 42, 43, 44, 45, 46, 47, 48, 49, 50, 51, 52, 53, 54, 55] else []) else (if k < 4 then (if k = 3 then [56, 57, 58, 59, 60, 61, 62, 63, 64, 65, 66, 67, 68, 69, 70, 71, 72, 73, 74, 75, 76, 77, 78, 79, 80] else []) else (if k = 4 then [81, 82, 83, 84, 85, 86, 87] else [])))) else (if k < 8 then (if k < 6 then (if k = 5 then [] else []) else (if k < 7 then (if k = 6 then [] else []) else (if k = 7 then [90, 91, 92] else []))) else (if k < 9 then (if k = 8 then [90, 91, 93] else []) else (if k < 10 then (if k = 9 then [90, 91, 94, 95] else []) else (if k = 10 then [90, 91, 96] else []))))) else (if k < 17 then (if k < 14 then (if k < 12 then (if k = 11 then [90, 91, 97, 98] else []) else (if k < 13 then (if k = 12 then [] else []) else (if k = 13 then [99, 100, 101, 102] else []))) else (if k < 15 then (if k = 14 then [] else []) else (if k < 16 then (if k = 15 then [103, 104, 105, 106, 107, 108, 109, 110, 111] else []) else (if k = 16 then [103, 104, 105, 106, 107, 112] else [])))) else (if k < 20 then (if k < 18 then (if k = 17 then [113, 103, 104, 105, 106, 107] else []) else (if k < 19 then (if k = 18 then [113, 103, 104, 105, 106, 107] else []) else (if k = 19 then [113, 103, 104, 105, 106, 107] else []))) else (if k < 21 then (if k = 20 then [113, 103, 104, 105, 106, 107] else []) else (if k < 22 then (if k = 21 then [113, 103, 104, 105, 106, 107, 114] else []) else (if k = 22 then [115, 116, 103, 104, 105, 106, 107] else [])))))) else (if k < 34 then (if k < 28 then (if k < 25 then (if k < 24 then (if k = 23 then [115, 116, 103, 104, 105, 106, 107] else []) else (if k = 24 then [117, 118, 115, 116, 103, 104, 105, 106, 107] else [])) else (if k < 26 then (if k = 25 then [117, 118, 115, 116, 103, 104, 105, 106, 107] else []) else (if k < 27 then (if k = 26 then [115, 116, 103, 104, 105, 106, 107, 119] else []) else (if k = 27 then [120, 121, 103, 104, 105, 106, 107, 122] else [])))) else (if k < 31 then (if k < 29 then (if k = 28 then [120, 121, 103, 104, 105, 106, 107, 123] else []) else (if k < 30 then (if k = 29 then [120, 121, 103, 104, 105, 106, 107, 124] else []) else (if k = 30 then [103, 104, 105, 106, 107, 125] else []))) else (if k < 32 then (if k = 31 then [103, 104, 105, 106, 107, 126, 127, 128] else []) else (if k < 33 then (if k = 32 then [103, 104, 105, 106, 107, 129, 130] else []) else (if k = 33 then [131, 132, 133, 134] else []))))) else (if k < 40 then (if k < 37 then (if k < 35 then (if k = 34 then [] else []) else (if k < 36 then (if k = 35 then [] else []) else (if k = 36 then [135, 136, 137] else []))) else (if k < 38 then (if k = 37 then [] else []) else (if k < 39 then (if k = 38 then [] else []) else (if k = 39 then [] else [])))) else (if k < 43 then (if k < 41 then (if k = 40 then [] else []) else (if k < 42 then (if k = 41 then [138, 139, 140, 141, 142, 143, 144, 145, 146, 147, 148, 149, 150, 151, 152, 153, 154, 155, 156, 157, 158, 159, 160, 161, 162, 163, 164, 165, 166, 167, 168, 169, 170, 171, 172, 173, 174, 175, 176, 177, 178, 179, 180, 181, 182, 183, 184, 185, 186, 187, 188, 189, 190, 191, 192, 193, 194, 195, 196, 197, 198, 199, 200, 201, 202, 203, 204, 205, 206, 207, 208, 209, 210, 211, 212, 213, 214, 215, 216, 217, 218, 219, 220, 221, 222, 223, 224, 225, 226, 227, 228, 229, 230, 231, 232, 233, 234, 235, 236, 237] else []) else (if k = 42 then [] else []))) else (if k < 44 then (if k = 43 then [] else []) else (if k < 302 then (if k = 44 then [] else []) else (if k = 302 then [99, 100] else []))))))
def hasF (k f : Nat) : Bool := (fldsL k).contains f
theorem hF_0_0 : hasF 0 0 = true := rfl
theorem hF_0_1 : hasF 0 1 = true := rfl
theorem hF_0_2 : hasF 0 2 = true := rfl
theorem hF_0_3 : hasF 0 3 = true := rfl
theorem hF_0_4 : hasF 0 4 = true := rfl
theorem hF_0_5 : hasF 0 5 = true := rfl
theorem hF_0_6 : hasF 0 6 = true := rfl
theorem hF_1_7 : hasF 1 7 = true := rfl
theorem hF_1_8 : hasF 1 8 = true := rfl
theorem hF_1_9 : hasF 1 9 = true := rfl
theorem hF_1_10 : hasF 1 10 = true := rfl
theorem hF_1_11 : hasF 1 11 = true := rfl
theorem hF_1_12 : hasF 1 12 = true := rfl
theorem hF_1_13 : hasF 1 13 = true := rfl
theorem hF_1_14 : hasF 1 14 = true := rfl
theorem hF_1_15 : hasF 1 15 = true := rfl
theorem hF_1_16 : hasF 1 16 = true := rfl
theorem hF_1_17 : hasF 1 17 = true := rfl
theorem hF_1_18 : hasF 1 18 = true := rfl
theorem hF_1_19 : hasF 1 19 = true := rfl
theorem hF_1_20 : hasF 1 20 = true := rfl
theorem hF_1_21 : hasF 1 21 = true := rfl
theorem hF_1_22 : hasF 1 22 = true := rfl
theorem hF_2_23 : hasF 2 23 = true := rfl
theorem hF_2_24 : hasF 2 24 = true := rfl
theorem hF_2_25 : hasF 2 25 = true := rfl
theorem hF_2_26 : hasF 2 26 = true := rfl
theorem hF_2_27 : hasF 2 27 = true := rfl
theorem hF_2_28 : hasF 2 28 = true := rfl
theorem hF_2_29 : hasF 2 29 = true := rfl
theorem hF_2_30 : hasF 2 30 = true := rfl
theorem hF_2_31 : hasF 2 31 = true := rfl
theorem hF_2_32 : hasF 2 32 = true := rfl
theorem hF_2_33 : hasF 2 33 = true := rfl
theorem hF_2_34 : hasF 2 34 = true := rfl
theorem hF_2_35 : hasF 2 35 = true := rfl
theorem hF_2_36 : hasF 2 36 = true := rfl
theorem hF_2_37 : hasF 2 37 = true := rfl
theorem hF_2_38 : hasF 2 38 = true := rfl
theorem hF_2_39 : hasF 2 39 = true := rfl
theorem hF_2_40 : hasF 2 40 = true := rfl
theorem hF_2_41 : hasF 2 41 = true := rfl
theorem hF_2_42 : hasF 2 42 = true := rfl
theorem hF_2_43 : hasF 2 43 = true := rfl
theorem hF_2_44 : hasF 2 44 = true := rfl
theorem hF_2_45 : hasF 2 45 = true := rfl
theorem hF_2_46 : hasF 2 46 = true := rfl
theorem hF_2_47 : hasF 2 47 = true := rfl
theorem hF_2_48 : hasF 2 48 = true := rfl
theorem hF_2_49 : hasF 2 49 = true := rfl
theorem hF_2_50 : hasF 2 50 = true := rfl
theorem hF_2_51 : hasF 2 51 = true := rfl
theorem hF_2_52 : hasF 2 52 = true := rfl
theorem hF_2_53 : hasF 2 53 = true := rfl
theorem hF_2_54 : hasF 2 54 = true := rfl
theorem hF_2_55 : hasF 2 55 = true := rfl
theorem hF_3_56 : hasF 3 56 = true := rfl
theorem hF_3_57 : hasF 3 57 = true := rfl
theorem hF_3_58 : hasF 3 58 = true := rfl
theorem hF_3_59 : hasF 3 59 = true := rfl
theorem hF_3_60 : hasF 3 60 = true := rfl
theorem hF_3_61 : hasF 3 61 = true := rfl
theorem hF_3_62 : hasF 3 62 = true := rfl
theorem hF_3_63 : hasF 3 63 = true := rfl
theorem hF_3_64 : hasF 3 64 = true := rfl
theorem hF_3_65 : hasF 3 65 = true := rfl
theorem hF_3_66 : hasF 3 66 = true := rfl
theorem hF_3_67 : hasF 3 67 = true := rfl
theorem hF_3_68 : hasF 3 68 = true := rfl
theorem hF_3_69 : hasF 3 69 = true := rfl
theorem hF_3_70 : hasF 3 70 = true := rfl
theorem hF_3_71 : hasF 3 71 = true := rfl
theorem hF_3_72 : hasF 3 72 = true := rfl
theorem hF_3_73 : hasF 3 73 = true := rfl
theorem hF_3_74 : hasF 3 74 = true := rfl
theorem hF_3_75 : hasF 3 75 = true := rfl
theorem hF_3_76 : hasF 3 76 = true := rfl
theorem hF_3_77 : hasF 3 77 = true := rfl
theorem hF_3_78 : hasF 3 78 = true := rfl
theorem hF_3_79 : hasF 3 79 = true := rfl
theorem hF_3_80 : hasF 3 80 = true := rfl
theorem hF_4_81 : hasF 4 81 = true := rfl
theorem hF_4_82 : hasF 4 82 = true := rfl
theorem hF_4_83 : hasF 4 83 = true := rfl
theorem hF_4_84 : hasF 4 84 = true := rfl
theorem hF_4_85 : hasF 4 85 = true := rfl
theorem hF_4_86 : hasF 4 86 = true := rfl
theorem hF_4_87 : hasF 4 87 = true := rfl
theorem hF_7_90 : hasF 7 90 = true := rfl
theorem hF_7_91 : hasF 7 91 = true := rfl
theorem hF_7_92 : hasF 7 92 = true := rfl
theorem hF_8_90 : hasF 8 90 = true := rfl
theorem hF_8_91 : hasF 8 91 = true := rfl
theorem hF_8_93 : hasF 8 93 = true := rfl
theorem hF_9_90 : hasF 9 90 = true := rfl
theorem hF_9_91 : hasF 9 91 = true := rfl
theorem hF_9_94 : hasF 9 94 = true := rfl
theorem hF_9_95 : hasF 9 95 = true := rfl
theorem hF_10_90 : hasF 10 90 = true := rfl
theorem hF_10_91 : hasF 10 91 = true := rfl
theorem hF_10_96 : hasF 10 96 = true := rfl
theorem hF_11_90 : hasF 11 90 = true := rfl
theorem hF_11_91 : hasF 11 91 = true := rfl
theorem hF_11_97 : hasF 11 97 = true := rfl
theorem hF_11_98 : hasF 11 98 = true := rfl
theorem hF_13_99 : hasF 13 99 = true := rfl
theorem hF_13_100 : hasF 13 100 = true := rfl
theorem hF_13_101 : hasF 13 101 = true := rfl
theorem hF_13_102 : hasF 13 102 = true := rfl
theorem hF_15_103 : hasF 15 103 = true := rfl
theorem hF_15_104 : hasF 15 104 = true := rfl
theorem hF_15_105 : hasF 15 105 = true := rfl
theorem hF_15_106 : hasF 15 106 = true := rfl
theorem hF_15_107 : hasF 15 107 = true := rfl
theorem hF_15_108 : hasF 15 108 = true := rfl
theorem hF_15_109 : hasF 15 109 = true := rfl
theorem hF_15_110 : hasF 15 110 = true := rfl
theorem hF_15_111 : hasF 15 111 = true := rfl
theorem hF_16_103 : hasF 16 103 = true := rfl
theorem hF_16_104 : hasF 16 104 = true := rfl
theorem hF_16_105 : hasF 16 105 = true := rfl
theorem hF_16_106 : hasF 16 106 = true := rfl
theorem hF_16_107 : hasF 16 107 = true := rfl
theorem hF_16_112 : hasF 16 112 = true := rfl
theorem hF_17_113 : hasF 17 113 = true := rfl
theorem hF_17_103 : hasF 17 103 = true := rfl
theorem hF_17_104 : hasF 17 104 = true := rfl
theorem hF_17_105 : hasF 17 105 = true := rfl
theorem hF_17_106 : hasF 17 106 = true := rfl
theorem hF_17_107 : hasF 17 107 = true := rfl
theorem hF_18_113 : hasF 18 113 = true := rfl
theorem hF_18_103 : hasF 18 103 = true := rfl
theorem hF_18_104 : hasF 18 104 = true := rfl
theorem hF_18_105 : hasF 18 105 = true := rfl
theorem hF_18_106 : hasF 18 106 = true := rfl
theorem hF_18_107 : hasF 18 107 = true := rfl
theorem hF_19_113 : hasF 19 113 = true := rfl
theorem hF_19_103 : hasF 19 103 = true := rfl
theorem hF_19_104 : hasF 19 104 = true := rfl
theorem hF_19_105 : hasF 19 105 = true := rfl
theorem hF_19_106 : hasF 19 106 = true := rfl
theorem hF_19_107 : hasF 19 107 = true := rfl
theorem hF_20_113 : hasF 20 113 = true := rfl
theorem hF_20_103 : hasF 20 103 = true := rfl
theorem hF_20_104 : hasF 20 104 = true := rfl
theorem hF_20_105 : hasF 20 105 = true := rfl
theorem hF_20_106 : hasF 20 106 = true := rfl
theorem hF_20_107 : hasF 20 107 = true := rfl
theorem hF_21_113 : hasF 21 113 = true := rfl
theorem hF_21_103 : hasF 21 103 = true := rfl
theorem hF_21_104 : hasF 21 104 = true := rfl
theorem hF_21_105 : hasF 21 105 = true := rfl
theorem hF_21_106 : hasF 21 106 = true := rfl
theorem hF_21_107 : hasF 21 107 = true := rfl
theorem hF_21_114 : hasF 21 114 = true := rfl
theorem hF_22_115 : hasF 22 115 = true := rfl
theorem hF_22_116 : hasF 22 116 = true := rfl
theorem hF_22_103 : hasF 22 103 = true := rfl
theorem hF_22_104 : hasF 22 104 = true := rfl
theorem hF_22_105 : hasF 22 105 = true := rfl
theorem hF_22_106 : hasF 22 106 = true := rfl
theorem hF_22_107 : hasF 22 107 = true := rfl
theorem hF_23_115 : hasF 23 115 = true := rfl
theorem hF_23_116 : hasF 23 116 = true := rfl
theorem hF_23_103 : hasF 23 103 = true := rfl
theorem hF_23_104 : hasF 23 104 = true := rfl
theorem hF_23_105 : hasF 23 105 = true := rfl
theorem hF_23_106 : hasF 23 106 = true := rfl
theorem hF_23_107 : hasF 23 107 = true := rfl
theorem hF_24_117 : hasF 24 117 = true := rfl
theorem hF_24_118 : hasF 24 118 = true := rfl
theorem hF_24_115 : hasF 24 115 = true := rfl
theorem hF_24_116 : hasF 24 116 = true := rfl
theorem hF_24_103 : hasF 24 103 = true := rfl
theorem hF_24_104 : hasF 24 104 = true := rfl
theorem hF_24_105 : hasF 24 105 = true := rfl
theorem hF_24_106 : hasF 24 106 = true := rfl
theorem hF_24_107 : hasF 24 107 = true := rfl
theorem hF_25_117 : hasF 25 117 = true := rfl
theorem hF_25_118 : hasF 25 118 = true := rfl
theorem hF_25_115 : hasF 25 115 = true := rfl
theorem hF_25_116 : hasF 25 116 = true := rfl
theorem hF_25_103 : hasF 25 103 = true := rfl
theorem hF_25_104 : hasF 25 104 = true := rfl
theorem hF_25_105 : hasF 25 105 = true := rfl
theorem hF_25_106 : hasF 25 106 = true := rfl
theorem hF_25_107 : hasF 25 107 = true := rfl
theorem hF_26_115 : hasF 26 115 = true := rfl
theorem hF_26_116 : hasF 26 116 = true := rfl
theorem hF_26_103 : hasF 26 103 = true := rfl
theorem hF_26_104 : hasF 26 104 = true := rfl
theorem hF_26_105 : hasF 26 105 = true := rfl
theorem hF_26_106 : hasF 26 106 = true := rfl
theorem hF_26_107 : hasF 26 107 = true := rfl
theorem hF_26_119 : hasF 26 119 = true := rfl
theorem hF_27_120 : hasF 27 120 = true := rfl
theorem hF_27_121 : hasF 27 121 = true := rfl
theorem hF_27_103 : hasF 27 103 = true := rfl
theorem hF_27_104 : hasF 27 104 = true := rfl
theorem hF_27_105 : hasF 27 105 = true := rfl
theorem hF_27_106 : hasF 27 106 = true := rfl
theorem hF_27_107 : hasF 27 107 = true := rfl
theorem hF_27_122 : hasF 27 122 = true := rfl
theorem hF_28_120 : hasF 28 120 = true := rfl
theorem hF_28_121 : hasF 28 121 = true := rfl
theorem hF_28_103 : hasF 28 103 = true := rfl
theorem hF_28_104 : hasF 28 104 = true := rfl
theorem hF_28_105 : hasF 28 105 = true := rfl
theorem hF_28_106 : hasF 28 106 = true := rfl
theorem hF_28_107 : hasF 28 107 = true := rfl
theorem hF_28_123 : hasF 28 123 = true := rfl
theorem hF_29_120 : hasF 29 120 = true := rfl
theorem hF_29_121 : hasF 29 121 = true := rfl
theorem hF_29_103 : hasF 29 103 = true := rfl
theorem hF_29_104 : hasF 29 104 = true := rfl
theorem hF_29_105 : hasF 29 105 = true := rfl
theorem hF_29_106 : hasF 29 106 = true := rfl
theorem hF_29_107 : hasF 29 107 = true := rfl
theorem hF_29_124 : hasF 29 124 = true := rfl
theorem hF_30_103 : hasF 30 103 = true := rfl
theorem hF_30_104 : hasF 30 104 = true := rfl
theorem hF_30_105 : hasF 30 105 = true := rfl
theorem hF_30_106 : hasF 30 106 = true := rfl
theorem hF_30_107 : hasF 30 107 = true := rfl
theorem hF_30_125 : hasF 30 125 = true := rfl
theorem hF_31_103 : hasF 31 103 = true := rfl
theorem hF_31_104 : hasF 31 104 = true := rfl
theorem hF_31_105 : hasF 31 105 = true := rfl
theorem hF_31_106 : hasF 31 106 = true := rfl
theorem hF_31_107 : hasF 31 107 = true := rfl
theorem hF_31_126 : hasF 31 126 = true := rfl
theorem hF_31_127 : hasF 31 127 = true := rfl
theorem hF_31_128 : hasF 31 128 = true := rfl
theorem hF_32_103 : hasF 32 103 = true := rfl
theorem hF_32_104 : hasF 32 104 = true := rfl
theorem hF_32_105 : hasF 32 105 = true := rfl
theorem hF_32_106 : hasF 32 106 = true := rfl
theorem hF_32_107 : hasF 32 107 = true := rfl
theorem hF_32_129 : hasF 32 129 = true := rfl
theorem hF_32_130 : hasF 32 130 = true := rfl
theorem hF_33_131 : hasF 33 131 = true := rfl
theorem hF_33_132 : hasF 33 132 = true := rfl
theorem hF_33_133 : hasF 33 133 = true := rfl
theorem hF_33_134 : hasF 33 134 = true := rfl
theorem hF_36_135 : hasF 36 135 = true := rfl
theorem hF_36_136 : hasF 36 136 = true := rfl
theorem hF_36_137 : hasF 36 137 = true := rfl
theorem hF_41_138 : hasF 41 138 = true := rfl
theorem hF_41_139 : hasF 41 139 = true := rfl
theorem hF_41_140 : hasF 41 140 = true := rfl
theorem hF_41_141 : hasF 41 141 = true := rfl
theorem hF_41_142 : hasF 41 142 = true := rfl
theorem hF_41_143 : hasF 41 143 = true := rfl
theorem hF_41_144 : hasF 41 144 = true := rfl
theorem hF_41_145 : hasF 41 145 = true := rfl
theorem hF_41_146 : hasF 41 146 = true := rfl
theorem hF_41_147 : hasF 41 147 = true := rfl
theorem hF_41_148 : hasF 41 148 = true := rfl
theorem hF_41_149 : hasF 41 149 = true := rfl
theorem hF_41_150 : hasF 41 150 = true := rfl
theorem hF_41_151 : hasF 41 151 = true := rfl
theorem hF_41_152 : hasF 41 152 = true := rfl
theorem hF_41_153 : hasF 41 153 = true := rfl
theorem hF_41_154 : hasF 41 154 = true := rfl
theorem hF_41_155 : hasF 41 155 = true := rfl
theorem hF_41_156 : hasF 41 156 = true := rfl
theorem hF_41_157 : hasF 41 157 = true := rfl
theorem hF_41_158 : hasF 41 158 = true := rfl
theorem hF_41_159 : hasF 41 159 = true := rfl
theorem hF_41_160 : hasF 41 160 = true := rfl
theorem hF_41_161 : hasF 41 161 = true := rfl
theorem hF_41_162 : hasF 41 162 = true := rfl
theorem hF_41_163 : hasF 41 163 = true := rfl
theorem hF_41_164 : hasF 41 164 = true := rfl
theorem hF_41_165 : hasF 41 165 = true := rfl
theorem hF_41_166 : hasF 41 166 = true := rfl
theorem hF_41_167 : hasF 41 167 = true := rfl
theorem hF_41_168 : hasF 41 168 = true := rfl
theorem hF_41_169 : hasF 41 169 = true := rfl
theorem hF_41_170 : hasF 41 170 = true := rfl
theorem hF_41_171 : hasF 41 171 = true := rfl
theorem hF_41_172 : hasF 41 172 = true := rfl
theorem hF_41_173 : hasF 41 173 = true := rfl
theorem hF_41_174 : hasF 41 174 = true := rfl
theorem hF_41_175 : hasF 41 175 = true := rfl
theorem hF_41_176 : hasF 41 176 = true := rfl
theorem hF_41_177 : hasF 41 177 = true := rfl
theorem hF_41_178 : hasF 41 178 = true := rfl
theorem hF_41_179 : hasF 41 179 = true := rfl
theorem hF_41_180 : hasF 41 180 = true := rfl
theorem hF_41_181 : hasF 41 181 = true := rfl
theorem hF_41_182 : hasF 41 182 = true := rfl
theorem hF_41_183 : hasF 41 183 = true := rfl
theorem hF_41_184 : hasF 41 184 = true := rfl
theorem hF_41_185 : hasF 41 185 = true := rfl
theorem hF_41_186 : hasF 41 186 = true := rfl
theorem hF_41_187 : hasF 41 187 = true := rfl
theorem hF_41_188 : hasF 41 188 = true := rfl
theorem hF_41_189 : hasF 41 189 = true := rfl
theorem hF_41_190 : hasF 41 190 = true := rfl
theorem hF_41_191 : hasF 41 191 = true := rfl
theorem hF_41_192 : hasF 41 192 = true := rfl
theorem hF_41_193 : hasF 41 193 = true := rfl
theorem hF_41_194 : hasF 41 194 = true := rfl
theorem hF_41_195 : hasF 41 195 = true := rfl
theorem hF_41_196 : hasF 41 196 = true := rfl
theorem hF_41_197 : hasF 41 197 = true := rfl
theorem hF_41_198 : hasF 41 198 = true := rfl
theorem hF_41_199 : hasF 41 199 = true := rfl
theorem hF_41_200 : hasF 41 200 = true := rfl
theorem hF_41_201 : hasF 41 201 = true := rfl
theorem hF_41_202 : hasF 41 202 = true := rfl
theorem hF_41_203 : hasF 41 203 = true := rfl
theorem hF_41_204 : hasF 41 204 = true := rfl
theorem hF_41_205 : hasF 41 205 = true := rfl
theorem hF_41_206 : hasF 41 206 = true := rfl
theorem hF_41_207 : hasF 41 207 = true := rfl
theorem hF_41_208 : hasF 41 208 = true := rfl
theorem hF_41_209 : hasF 41 209 = true := rfl
theorem hF_41_210 : hasF 41 210 = true := rfl
theorem hF_41_211 : hasF 41 211 = true := rfl
theorem hF_41_212 : hasF 41 212 = true := rfl
theorem hF_41_213 : hasF 41 213 = true := rfl
theorem hF_41_214 : hasF 41 214 = true := rfl
theorem hF_41_215 : hasF 41 215 = true := rfl
theorem hF_41_216 : hasF 41 216 = true := rfl
theorem hF_41_217 : hasF 41 217 = true := rfl
theorem hF_41_218 : hasF 41 218 = true := rfl
theorem hF_41_219 : hasF 41 219 = true := rfl
theorem hF_41_220 : hasF 41 220 = true := rfl
theorem hF_41_221 : hasF 41 221 = true := rfl
theorem hF_41_222 : hasF 41 222 = true := rfl
theorem hF_41_223 : hasF 41 223 = true := rfl
theorem hF_41_224 : hasF 41 224 = true := rfl
theorem hF_41_225 : hasF 41 225 = true := rfl
theorem hF_41_226 : hasF 41 226 = true := rfl
theorem hF_41_227 : hasF 41 227 = true := rfl
theorem hF_41_228 : hasF 41 228 = true := rfl
theorem hF_41_229 : hasF 41 229 = true := rfl
theorem hF_41_230 : hasF 41 230 = true := rfl
theorem hF_41_231 : hasF 41 231 = true := rfl
theorem hF_41_232 : hasF 41 232 = true := rfl
theorem hF_41_233 : hasF 41 233 = true := rfl
theorem hF_41_234 : hasF 41 234 = true := rfl
theorem hF_41_235 : hasF 41 235 = true := rfl
theorem hF_41_236 : hasF 41 236 = true := rfl
theorem hF_41_237 : hasF 41 237 = true := rfl
theorem hF_302_99 : hasF 302 99 = true := rfl
theorem hF_302_100 : hasF 302 100 = true := rfl
def fty (k : Nat) : Nat := if k < 119 then (if k < 59 then (if k < 29 then (if k < 14 then (if k < 7 then (if k < 3 then (if k < 1 then (if k = 0 then 8 else 0) else (if k < 2 then (if k = 1 then 8 else 0) else (if k = 2 then 8 else 0))) else (if k < 5 then (if k < 4 then (if k = 3 then 0 else 0) else (if k = 4 then 0 else 0)) else (if k < 6 then (if k = 5 then 0 else 0) else (if k = 6 then 0 else 0)))) else (if k < 10 then (if k < 8 then (if k = 7 then 8 else 0) else (if k < 9 then (if k = 8 then 8 else 0) else (if k = 9 then 8 else 0))) else (if k < 12 then (if k < 11 then (if k = 10 then 8 else 0) else (if k = 11 then 8 else 0)) else (if k < 13 then (if k = 12 then 0 else 0) else (if k = 13 then 0 else 0))))) else (if k < 21 then (if k < 17 then (if k < 15 then (if k = 14 then 0 else 0) else (if k < 16 then (if k = 15 then 0 else 0) else (if k = 16 then 0 else 0))) else (if k < 19 then (if k < 18 then (if k = 17 then 0 else 0) else (if k = 18 then 0 else 0)) else (if k < 20 then (if k = 19 then 0 else 0) else (if k = 20 then 0 else 0)))) else (if k < 25 then (if k < 23 then (if k < 22 then (if k = 21 then 7 else 0) else (if k = 22 then 1 else 0)) else (if k < 24 then (if k = 23 then 8 else 0) else (if k = 24 then 0 else 0))) else (if k < 27 then (if k < 26 then (if k = 25 then 0 else 0) else (if k = 26 then 8 else 0)) else (if k < 28 then (if k = 27 then 8 else 0) else (if k = 28 then 8 else 0)))))) else (if k < 44 then (if k < 36 then (if k < 32 then (if k < 30 then (if k = 29 then 0 else 0) else (if k < 31 then (if k = 30 then 7 else 0) else (if k = 31 then 0 else 0))) else (if k < 34 then (if k < 33 then (if k = 32 then 0 else 0) else (if k = 33 then 0 else 0)) else (if k < 35 then (if k = 34 then 0 else 0) else (if k = 35 then 0 else 0)))) else (if k < 40 then (if k < 38 then (if k < 37 then (if k = 36 then 0 else 0) else (if k = 37 then 0 else 0)) else (if k < 39 then (if k = 38 then 5 else 0) else (if k = 39 then 8 else 0))) else (if k < 42 then (if k < 41 then (if k = 40 then 8 else 0) else (if k = 41 then 8 else 0)) else (if k < 43 then (if k = 42 then 8 else 0) else (if k = 43 then 8 else 0))))) else (if k < 51 then (if k < 47 then (if k < 45 then (if k = 44 then 8 else 0) else (if k < 46 then (if k = 45 then 8 else 0) else (if k = 46 then 8 else 0))) else (if k < 49 then (if k < 48 then (if k = 47 then 8 else 0) else (if k = 48 then 0 else 0)) else (if k < 50 then (if k = 49 then 0 else 0) else (if k = 50 then 1 else 0)))) else (if k < 55 then (if k < 53 then (if k < 52 then (if k = 51 then 1 else 0) else (if k = 52 then 1 else 0)) else (if k < 54 then (if k = 53 then 1 else 0) else (if k = 54 then 1 else 0))) else (if k < 57 then (if k < 56 then (if k = 55 then 7 else 0) else (if k = 56 then 8 else 0)) else (if k < 58 then (if k = 57 then 8 else 0) else (if k = 58 then 8 else 0))))))) else (if k < 89 then (if k < 74 then (if k < 66 then (if k < 62 then (if k < 60 then (if k = 59 then 8 else 0) else (if k < 61 then (if k = 60 then 8 else 0) else (if k = 61 then 8 else 0))) else (if k < 64 then (if k < 63 then (if k = 62 then 8 else 0) else (if k = 63 then 8 else 0)) else (if k < 65 then (if k = 64 then 0 else 0) else (if k = 65 then 0 else 0)))) else (if k < 70 then (if k < 68 then (if k < 67 then (if k = 66 then 0 else 0) else (if k = 67 then 0 else 0)) else (if k < 69 then (if k = 68 then 8 else 0) else (if k = 69 then 8 else 0))) else (if k < 72 then (if k < 71 then (if k = 70 then 8 else 0) else (if k = 71 then 8 else 0)) else (if k < 73 then (if k = 72 then 8 else 0) else (if k = 73 then 8 else 0))))) else (if k < 81 then (if k < 77 then (if k < 75 then (if k = 74 then 0 else 0) else (if k < 76 then (if k = 75 then 0 else 0) else (if k = 76 then 0 else 0))) else (if k < 79 then (if k < 78 then (if k = 77 then 0 else 0) else (if k = 78 then 0 else 0)) else (if k < 80 then (if k = 79 then 8 else 0) else (if k = 80 then 8 else 0)))) else (if k < 85 then (if k < 83 then (if k < 82 then (if k = 81 then 8 else 0) else (if k = 82 then 8 else 0)) else (if k < 84 then (if k = 83 then 8 else 0) else (if k = 84 then 8 else 0))) else (if k < 87 then (if k < 86 then (if k = 85 then 8 else 0) else (if k = 86 then 0 else 0)) else (if k < 88 then (if k = 87 then 0 else 0) else (if k = 88 then 0 else 0)))))) else (if k < 104 then (if k < 96 then (if k < 92 then (if k < 90 then (if k = 89 then 8 else 0) else (if k < 91 then (if k = 90 then 8 else 0) else (if k = 91 then 0 else 0))) else (if k < 94 then (if k < 93 then (if k = 92 then 8 else 0) else (if k = 93 then 8 else 0)) else (if k < 95 then (if k = 94 then 8 else 0) else (if k = 95 then 0 else 0)))) else (if k < 100 then (if k < 98 then (if k < 97 then (if k = 96 then 8 else 0) else (if k = 97 then 8 else 0)) else (if k < 99 then (if k = 98 then 0 else 0) else (if k = 99 then 8 else 0))) else (if k < 102 then (if k < 101 then (if k = 100 then 2 else 0) else (if k = 101 then 0 else 0)) else (if k < 103 then (if k = 102 then 1 else 0) else (if k = 103 then 7 else 0))))) else (if k < 111 then (if k < 107 then (if k < 105 then (if k = 104 then 7 else 0) else (if k < 106 then (if k = 105 then 1 else 0) else (if k = 106 then 1 else 0))) else (if k < 109 then (if k < 108 then (if k = 107 then 0 else 0) else (if k = 108 then 0 else 0)) else (if k < 110 then (if k = 109 then 0 else 0) else (if k = 110 then 7 else 0)))) else (if k < 115 then (if k < 113 then (if k < 112 then (if k = 111 then 1 else 0) else (if k = 112 then 8 else 0)) else (if k < 114 then (if k = 113 then 8 else 0) else (if k = 114 then 0 else 0))) else (if k < 117 then (if k < 116 then (if k = 115 then 8 else 0) else (if k = 116 then 8 else 0)) else (if k < 118 then (if k = 117 then 7 else 0) else (if k = 118 then 7 else 0)))))))) else (if k < 178 then (if k < 148 then (if k < 133 then (if k < 126 then (if k < 122 then (if k < 120 then (if k = 119 then 1 else 0) else (if k < 121 then (if k = 120 then 8 else 0) else (if k = 121 then 8 else 0))) else (if k < 124 then (if k < 123 then (if k = 122 then 1 else 0) else (if k = 123 then 1 else 0)) else (if k < 125 then (if k = 124 then 0 else 0) else (if k = 125 then 8 else 0)))) else (if k < 129 then (if k < 127 then (if k = 126 then 8 else 0) else (if k < 128 then (if k = 127 then 8 else 0) else (if k = 128 then 8 else 0))) else (if k < 131 then (if k < 130 then (if k = 129 then 8 else 0) else (if k = 130 then 8 else 0)) else (if k < 132 then (if k = 131 then 8 else 0) else (if k = 132 then 2 else 0))))) else (if k < 140 then (if k < 136 then (if k < 134 then (if k = 133 then 1 else 0) else (if k < 135 then (if k = 134 then 0 else 0) else (if k = 135 then 0 else 0))) else (if k < 138 then (if k < 137 then (if k = 136 then 8 else 0) else (if k = 137 then 8 else 0)) else (if k < 139 then (if k = 138 then 0 else 0) else (if k = 139 then 8 else 0)))) else (if k < 144 then (if k < 142 then (if k < 141 then (if k = 140 then 0 else 0) else (if k = 141 then 0 else 0)) else (if k < 143 then (if k = 142 then 8 else 0) else (if k = 143 then 8 else 0))) else (if k < 146 then (if k < 145 then (if k = 144 then 8 else 0) else (if k = 145 then 0 else 0)) else (if k < 147 then (if k = 146 then 0 else 0) else (if k = 147 then 0 else 0)))))) else (if k < 163 then (if k < 155 then (if k < 151 then (if k < 149 then (if k = 148 then 0 else 0) else (if k < 150 then (if k = 149 then 8 else 0) else (if k = 150 then 8 else 0))) else (if k < 153 then (if k < 152 then (if k = 151 then 8 else 0) else (if k = 152 then 0 else 0)) else (if k < 154 then (if k = 153 then 0 else 0) else (if k = 154 then 8 else 0)))) else (if k < 159 then (if k < 157 then (if k < 156 then (if k = 155 then 8 else 0) else (if k = 156 then 8 else 0)) else (if k < 158 then (if k = 157 then 8 else 0) else (if k = 158 then 8 else 0))) else (if k < 161 then (if k < 160 then (if k = 159 then 8 else 0) else (if k = 160 then 8 else 0)) else (if k < 162 then (if k = 161 then 0 else 0) else (if k = 162 then 8 else 0))))) else (if k < 170 then (if k < 166 then (if k < 164 then (if k = 163 then 8 else 0) else (if k < 165 then (if k = 164 then 8 else 0) else (if k = 165 then 8 else 0))) else (if k < 168 then (if k < 167 then (if k = 166 then 8 else 0) else (if k = 167 then 0 else 0)) else (if k < 169 then (if k = 168 then 7 else 0) else (if k = 169 then 0 else 0)))) else (if k < 174 then (if k < 172 then (if k < 171 then (if k = 170 then 0 else 0) else (if k = 171 then 0 else 0)) else (if k < 173 then (if k = 172 then 0 else 0) else (if k = 173 then 0 else 0))) else (if k < 176 then (if k < 175 then (if k = 174 then 7 else 0) else (if k = 175 then 7 else 0)) else (if k < 177 then (if k = 176 then 8 else 0) else (if k = 177 then 0 else 0))))))) else (if k < 208 then (if k < 193 then (if k < 185 then (if k < 181 then (if k < 179 then (if k = 178 then 5 else 0) else (if k < 180 then (if k = 179 then 8 else 0) else (if k = 180 then 8 else 0))) else (if k < 183 then (if k < 182 then (if k = 181 then 8 else 0) else (if k = 182 then 8 else 0)) else (if k < 184 then (if k = 183 then 8 else 0) else (if k = 184 then 8 else 0)))) else (if k < 189 then (if k < 187 then (if k < 186 then (if k = 185 then 8 else 0) else (if k = 186 then 8 else 0)) else (if k < 188 then (if k = 187 then 0 else 0) else (if k = 188 then 0 else 0))) else (if k < 191 then (if k < 190 then (if k = 189 then 8 else 0) else (if k = 190 then 0 else 0)) else (if k < 192 then (if k = 191 then 8 else 0) else (if k = 192 then 8 else 0))))) else (if k < 200 then (if k < 196 then (if k < 194 then (if k = 193 then 0 else 0) else (if k < 195 then (if k = 194 then 0 else 0) else (if k = 195 then 0 else 0))) else (if k < 198 then (if k < 197 then (if k = 196 then 0 else 0) else (if k = 197 then 8 else 0)) else (if k < 199 then (if k = 198 then 8 else 0) else (if k = 199 then 0 else 0)))) else (if k < 204 then (if k < 202 then (if k < 201 then (if k = 200 then 8 else 0) else (if k = 201 then 8 else 0)) else (if k < 203 then (if k = 202 then 8 else 0) else (if k = 203 then 0 else 0))) else (if k < 206 then (if k < 205 then (if k = 204 then 0 else 0) else (if k = 205 then 0 else 0)) else (if k < 207 then (if k = 206 then 7 else 0) else (if k = 207 then 7 else 0)))))) else (if k < 223 then (if k < 215 then (if k < 211 then (if k < 209 then (if k = 208 then 8 else 0) else (if k < 210 then (if k = 209 then 8 else 0) else (if k = 210 then 8 else 0))) else (if k < 213 then (if k < 212 then (if k = 211 then 0 else 0) else (if k = 212 then 0 else 0)) else (if k < 214 then (if k = 213 then 0 else 0) else (if k = 214 then 0 else 0)))) else (if k < 219 then (if k < 217 then (if k < 216 then (if k = 215 then 0 else 0) else (if k = 216 then 0 else 0)) else (if k < 218 then (if k = 217 then 8 else 0) else (if k = 218 then 1 else 0))) else (if k < 221 then (if k < 220 then (if k = 219 then 0 else 0) else (if k = 220 then 1 else 0)) else (if k < 222 then (if k = 221 then 1 else 0) else (if k = 222 then 1 else 0))))) else (if k < 230 then (if k < 226 then (if k < 224 then (if k = 223 then 1 else 0) else (if k < 225 then (if k = 224 then 7 else 0) else (if k = 225 then 0 else 0))) else (if k < 228 then (if k < 227 then (if k = 226 then 8 else 0) else (if k = 227 then 8 else 0)) else (if k < 229 then (if k = 228 then 8 else 0) else (if k = 229 then 8 else 0)))) else (if k < 234 then (if k < 232 then (if k < 231 then (if k = 230 then 8 else 0) else (if k = 231 then 8 else 0)) else (if k < 233 then (if k = 232 then 8 else 0) else (if k = 233 then 8 else 0))) else (if k < 236 then (if k < 235 then (if k = 234 then 8 else 0) else (if k = 235 then 8 else 0)) else (if k < 237 then (if k = 236 then 8 else 0) else (if k = 237 then 0 else 0))))))))
def fdT (k : Nat) : String × String × String × Bool := if k < 119 then (if k < 59 then (if k < 29 then (if k < 14 then (if k < 7 then (if k < 3 then (if k < 1 then (if k = 0 then ("ConstraintHouse", "reader", "LConstraintHouse$Reader;", true) else ("", "", "", false)) else (if k < 2 then (if k = 1 then ("ConstraintHouse", "solver", "LConstraintHouse$Solver;", true) else ("", "", "", false)) else (if k = 2 then ("ConstraintHouse", "doer", "LConstraintHouse$Doer;", true) else ("", "", "", false)))) else (if k < 5 then (if k < 4 then (if k = 3 then ("ConstraintHouse", "taped", "I", false) else ("", "", "", false)) else (if k = 4 then ("ConstraintHouse", "kind", "I", false) else ("", "", "", false))) else (if k < 6 then (if k = 5 then ("ConstraintHouse", "told", "I", false) else ("", "", "", false)) else (if k = 6 then ("ConstraintHouse", "place", "I", false) else ("", "", "", false))))) else (if k < 10 then (if k < 8 then (if k = 7 then ("ConstraintHouse$Reader", "row", "[B", true) else ("", "", "", false)) else (if k < 9 then (if k = 8 then ("ConstraintHouse$Reader", "act", "[I", true) else ("", "", "", false)) else (if k = 9 then ("ConstraintHouse$Reader", "of", "[I", true) else ("", "", "", false)))) else (if k < 12 then (if k < 11 then (if k = 10 then ("ConstraintHouse$Reader", "number", "[D", true) else ("", "", "", false)) else (if k = 11 then ("ConstraintHouse$Reader", "words", "[Ljava/lang/String;", true) else ("", "", "", false))) else (if k < 13 then (if k = 12 then ("ConstraintHouse$Reader", "acts", "I", false) else ("", "", "", false)) else (if k = 13 then ("ConstraintHouse$Reader", "size", "I", false) else ("", "", "", false)))))) else (if k < 21 then (if k < 17 then (if k < 15 then (if k = 14 then ("ConstraintHouse$Reader", "at", "I", false) else ("", "", "", false)) else (if k < 16 then (if k = 15 then ("ConstraintHouse$Reader", "kind", "I", false) else ("", "", "", false)) else (if k = 16 then ("ConstraintHouse$Reader", "place", "I", false) else ("", "", "", false)))) else (if k < 19 then (if k < 18 then (if k = 17 then ("ConstraintHouse$Reader", "code", "I", false) else ("", "", "", false)) else (if k = 18 then ("ConstraintHouse$Reader", "tokens", "I", false) else ("", "", "", false))) else (if k < 20 then (if k = 19 then ("ConstraintHouse$Reader", "depth", "I", false) else ("", "", "", false)) else (if k = 20 then ("ConstraintHouse$Reader", "numbers", "I", false) else ("", "", "", false))))) else (if k < 25 then (if k < 23 then (if k < 22 then (if k = 21 then ("ConstraintHouse$Reader", "value", "D", false) else ("", "", "", false)) else (if k = 22 then ("ConstraintHouse$Reader", "isWhole", "Z", false) else ("", "", "", false))) else (if k < 24 then (if k = 23 then ("ConstraintHouse$Solver", "variables", "[LConstraintHouse$Variable;", true) else ("", "", "", false)) else (if k = 24 then ("ConstraintHouse$Solver", "many", "I", false) else ("", "", "", false)))) else (if k < 27 then (if k < 26 then (if k = 25 then ("ConstraintHouse$Solver", "rules", "I", false) else ("", "", "", false)) else (if k = 26 then ("ConstraintHouse$Solver", "rule", "[LConstraintHouse$Part;", true) else ("", "", "", false))) else (if k < 28 then (if k = 27 then ("ConstraintHouse$Solver", "size", "[I", true) else ("", "", "", false)) else (if k = 28 then ("ConstraintHouse$Solver", "aim", "LConstraintHouse$Part;", false) else ("", "", "", false))))))) else (if k < 44 then (if k < 36 then (if k < 32 then (if k < 30 then (if k = 29 then ("ConstraintHouse$Solver", "aimSize", "I", false) else ("", "", "", false)) else (if k < 31 then (if k = 30 then ("ConstraintHouse$Solver", "precision", "D", false) else ("", "", "", false)) else (if k = 31 then ("ConstraintHouse$Solver", "entered", "I", false) else ("", "", "", false)))) else (if k < 34 then (if k < 33 then (if k = 32 then ("ConstraintHouse$Solver", "rounds", "I", false) else ("", "", "", false)) else (if k = 33 then ("ConstraintHouse$Solver", "narrowed", "I", false) else ("", "", "", false))) else (if k < 35 then (if k = 34 then ("ConstraintHouse$Solver", "steps", "I", false) else ("", "", "", false)) else (if k = 35 then ("ConstraintHouse$Solver", "empties", "I", false) else ("", "", "", false))))) else (if k < 40 then (if k < 38 then (if k < 37 then (if k = 36 then ("ConstraintHouse$Solver", "boxes", "I", false) else ("", "", "", false)) else (if k = 37 then ("ConstraintHouse$Solver", "at", "I", false) else ("", "", "", false))) else (if k < 39 then (if k = 38 then ("ConstraintHouse$Solver", "worked", "J", false) else ("", "", "", false)) else (if k = 39 then ("ConstraintHouse$Solver", "wasLow", "[D", true) else ("", "", "", false)))) else (if k < 42 then (if k < 41 then (if k = 40 then ("ConstraintHouse$Solver", "wasHigh", "[D", true) else ("", "", "", false)) else (if k = 41 then ("ConstraintHouse$Solver", "had", "[I", true) else ("", "", "", false))) else (if k < 43 then (if k = 42 then ("ConstraintHouse$Solver", "lows", "[D", true) else ("", "", "", false)) else (if k = 43 then ("ConstraintHouse$Solver", "highs", "[D", true) else ("", "", "", false)))))) else (if k < 51 then (if k < 47 then (if k < 45 then (if k = 44 then ("ConstraintHouse$Solver", "numbers", "[S", true) else ("", "", "", false)) else (if k < 46 then (if k = 45 then ("ConstraintHouse$Solver", "letters", "[C", true) else ("", "", "", false)) else (if k = 46 then ("ConstraintHouse$Solver", "things", "[B", true) else ("", "", "", false)))) else (if k < 49 then (if k < 48 then (if k = 47 then ("ConstraintHouse$Solver", "has", "[Z", true) else ("", "", "", false)) else (if k = 48 then ("ConstraintHouse$Solver", "nodes", "I", false) else ("", "", "", false))) else (if k < 50 then (if k = 49 then ("ConstraintHouse$Solver", "bestMany", "I", false) else ("", "", "", false)) else (if k = 50 then ("ConstraintHouse$Solver", "searches", "Z", false) else ("", "", "", false))))) else (if k < 55 then (if k < 53 then (if k < 52 then (if k = 51 then ("ConstraintHouse$Solver", "least", "Z", false) else ("", "", "", false)) else (if k = 52 then ("ConstraintHouse$Solver", "hasBound", "Z", false) else ("", "", "", false))) else (if k < 54 then (if k = 53 then ("ConstraintHouse$Solver", "hasBest", "Z", false) else ("", "", "", false)) else (if k = 54 then ("ConstraintHouse$Solver", "fresh", "Z", false) else ("", "", "", false)))) else (if k < 57 then (if k < 56 then (if k = 55 then ("ConstraintHouse$Solver", "bound", "D", false) else ("", "", "", false)) else (if k = 56 then ("ConstraintHouse$Doer", "reader", "LConstraintHouse$Reader;", true) else ("", "", "", false))) else (if k < 58 then (if k = 57 then ("ConstraintHouse$Doer", "solver", "LConstraintHouse$Solver;", true) else ("", "", "", false)) else (if k = 58 then ("ConstraintHouse$Doer", "fault", "LConstraintHouse$Fault;", true) else ("", "", "", false)))))))) else (if k < 89 then (if k < 74 then (if k < 66 then (if k < 62 then (if k < 60 then (if k = 59 then ("ConstraintHouse$Doer", "name", "[Ljava/lang/String;", true) else ("", "", "", false)) else (if k < 61 then (if k = 60 then ("ConstraintHouse$Doer", "sort", "[I", true) else ("", "", "", false)) else (if k = 61 then ("ConstraintHouse$Doer", "which", "[I", true) else ("", "", "", false)))) else (if k < 64 then (if k < 63 then (if k = 62 then ("ConstraintHouse$Doer", "let", "[I", true) else ("", "", "", false)) else (if k = 63 then ("ConstraintHouse$Doer", "rows", "[LConstraintHouse$Row;", true) else ("", "", "", false))) else (if k < 65 then (if k = 64 then ("ConstraintHouse$Doer", "names", "I", false) else ("", "", "", false)) else (if k = 65 then ("ConstraintHouse$Doer", "lets", "I", false) else ("", "", "", false))))) else (if k < 70 then (if k < 68 then (if k < 67 then (if k = 66 then ("ConstraintHouse$Doer", "many", "I", false) else ("", "", "", false)) else (if k = 67 then ("ConstraintHouse$Doer", "ever", "I", false) else ("", "", "", false))) else (if k < 69 then (if k = 68 then ("ConstraintHouse$Doer", "pool", "[LConstraintHouse$Variable;", true) else ("", "", "", false)) else (if k = 69 then ("ConstraintHouse$Doer", "probe", "[LConstraintHouse$Variable;", true) else ("", "", "", false)))) else (if k < 72 then (if k < 71 then (if k = 70 then ("ConstraintHouse$Doer", "con", "[I", true) else ("", "", "", false)) else (if k = 71 then ("ConstraintHouse$Doer", "bound", "[D", true) else ("", "", "", false))) else (if k < 73 then (if k = 72 then ("ConstraintHouse$Doer", "part", "[LConstraintHouse$Part;", true) else ("", "", "", false)) else (if k = 73 then ("ConstraintHouse$Doer", "held", "[LConstraintHouse$Row;", true) else ("", "", "", false)))))) else (if k < 81 then (if k < 77 then (if k < 75 then (if k = 74 then ("ConstraintHouse$Doer", "cons", "I", false) else ("", "", "", false)) else (if k < 76 then (if k = 75 then ("ConstraintHouse$Doer", "bounds", "I", false) else ("", "", "", false)) else (if k = 76 then ("ConstraintHouse$Doer", "parts", "I", false) else ("", "", "", false)))) else (if k < 79 then (if k < 78 then (if k = 77 then ("ConstraintHouse$Doer", "helds", "I", false) else ("", "", "", false)) else (if k = 78 then ("ConstraintHouse$Doer", "made", "I", false) else ("", "", "", false))) else (if k < 80 then (if k = 79 then ("ConstraintHouse$Doer", "value", "Ljava/lang/Object;", false) else ("", "", "", false)) else (if k = 80 then ("ConstraintHouse$Doer", "one", "LConstraintHouse$Variable;", false) else ("", "", "", false))))) else (if k < 85 then (if k < 83 then (if k < 82 then (if k = 81 then ("java/lang/Throwable", "cause", "Ljava/lang/Throwable;", false) else ("", "", "", false)) else (if k = 82 then ("java/lang/Throwable", "stackTrace", "[Ljava/lang/StackTraceElement;", false) else ("", "", "", false))) else (if k < 84 then (if k = 83 then ("java/lang/Throwable", "suppressedExceptions", "Ljava/util/List;", false) else ("", "", "", false)) else (if k = 84 then ("java/lang/Throwable", "detailMessage", "Ljava/lang/String;", false) else ("", "", "", false)))) else (if k < 87 then (if k < 86 then (if k = 85 then ("java/lang/Throwable", "backtrace", "Ljava/lang/Object;", false) else ("", "", "", false)) else (if k = 86 then ("java/lang/Throwable", "depth", "I", false) else ("", "", "", false))) else (if k < 88 then (if k = 87 then ("ConstraintHouse$Fault", "kind", "I", false) else ("", "", "", false)) else (if k = 88 then ("java/lang/NullPointerException", "extendedMessageState", "I", false) else ("", "", "", false))))))) else (if k < 104 then (if k < 96 then (if k < 92 then (if k < 90 then (if k = 89 then ("java/lang/NullPointerException", "extendedMessage", "Ljava/lang/String;", false) else ("", "", "", false)) else (if k < 91 then (if k = 90 then ("ConstraintHouse$Variable", "domain", "Ljava/lang/Object;", false) else ("", "", "", false)) else (if k = 91 then ("ConstraintHouse$Variable", "number", "I", false) else ("", "", "", false)))) else (if k < 94 then (if k < 93 then (if k = 92 then ("ConstraintHouse$Real", "mine", "[D", false) else ("", "", "", false)) else (if k = 93 then ("ConstraintHouse$Small", "mine", "[F", false) else ("", "", "", false))) else (if k < 95 then (if k = 94 then ("ConstraintHouse$Whole", "mine", "[S", false) else ("", "", "", false)) else (if k = 95 then ("ConstraintHouse$Whole", "many", "I", false) else ("", "", "", false))))) else (if k < 100 then (if k < 98 then (if k < 97 then (if k = 96 then ("ConstraintHouse$Truth", "mine", "[Z", false) else ("", "", "", false)) else (if k = 97 then ("ConstraintHouse$Letter", "mine", "[C", false) else ("", "", "", false))) else (if k < 99 then (if k = 98 then ("ConstraintHouse$Letter", "many", "I", false) else ("", "", "", false)) else (if k = 99 then ("java/lang/String", "value", "[B", true) else ("", "", "", false)))) else (if k < 102 then (if k < 101 then (if k = 100 then ("java/lang/String", "coder", "B", true) else ("", "", "", false)) else (if k = 101 then ("java/lang/String", "hash", "I", false) else ("", "", "", false))) else (if k < 103 then (if k = 102 then ("java/lang/String", "hashIsZero", "Z", false) else ("", "", "", false)) else (if k = 103 then ("ConstraintHouse$Part", "low", "D", false) else ("", "", "", false)))))) else (if k < 111 then (if k < 107 then (if k < 105 then (if k = 104 then ("ConstraintHouse$Part", "high", "D", false) else ("", "", "", false)) else (if k < 106 then (if k = 105 then ("ConstraintHouse$Part", "no", "Z", false) else ("", "", "", false)) else (if k = 106 then ("ConstraintHouse$Part", "yes", "Z", false) else ("", "", "", false)))) else (if k < 109 then (if k < 108 then (if k = 107 then ("ConstraintHouse$Part", "letters", "I", false) else ("", "", "", false)) else (if k = 108 then ("ConstraintHouse$Constant", "sort", "I", true) else ("", "", "", false))) else (if k < 110 then (if k = 109 then ("ConstraintHouse$Constant", "bits", "I", true) else ("", "", "", false)) else (if k = 110 then ("ConstraintHouse$Constant", "number", "D", true) else ("", "", "", false))))) else (if k < 115 then (if k < 113 then (if k < 112 then (if k = 111 then ("ConstraintHouse$Constant", "truth", "Z", true) else ("", "", "", false)) else (if k = 112 then ("ConstraintHouse$Leaf", "of", "LConstraintHouse$Variable;", true) else ("", "", "", false))) else (if k < 114 then (if k = 113 then ("ConstraintHouse$Single", "x", "LConstraintHouse$Part;", true) else ("", "", "", false)) else (if k = 114 then ("ConstraintHouse$Stairs", "which", "I", true) else ("", "", "", false)))) else (if k < 117 then (if k < 116 then (if k = 115 then ("ConstraintHouse$Pair", "x", "LConstraintHouse$Part;", true) else ("", "", "", false)) else (if k = 116 then ("ConstraintHouse$Pair", "y", "LConstraintHouse$Part;", true) else ("", "", "", false))) else (if k < 118 then (if k = 117 then ("ConstraintHouse$Scaled", "from", "D", false) else ("", "", "", false)) else (if k = 118 then ("ConstraintHouse$Scaled", "to", "D", false) else ("", "", "", false))))))))) else (if k < 178 then (if k < 148 then (if k < 133 then (if k < 126 then (if k < 122 then (if k < 120 then (if k = 119 then ("ConstraintHouse$Extreme", "least", "Z", true) else ("", "", "", false)) else (if k < 121 then (if k = 120 then ("ConstraintHouse$Relation", "x", "LConstraintHouse$Part;", true) else ("", "", "", false)) else (if k = 121 then ("ConstraintHouse$Relation", "y", "LConstraintHouse$Part;", true) else ("", "", "", false)))) else (if k < 124 then (if k < 123 then (if k = 122 then ("ConstraintHouse$Alike", "contrary", "Z", true) else ("", "", "", false)) else (if k = 123 then ("ConstraintHouse$Order", "below", "Z", true) else ("", "", "", false))) else (if k < 125 then (if k = 124 then ("ConstraintHouse$Logic", "which", "I", true) else ("", "", "", false)) else (if k = 125 then ("ConstraintHouse$Not", "x", "LConstraintHouse$Part;", true) else ("", "", "", false))))) else (if k < 129 then (if k < 127 then (if k = 126 then ("ConstraintHouse$Choice", "test", "LConstraintHouse$Part;", true) else ("", "", "", false)) else (if k < 128 then (if k = 127 then ("ConstraintHouse$Choice", "x", "LConstraintHouse$Part;", true) else ("", "", "", false)) else (if k = 128 then ("ConstraintHouse$Choice", "y", "LConstraintHouse$Part;", true) else ("", "", "", false)))) else (if k < 131 then (if k < 130 then (if k = 129 then ("ConstraintHouse$Among", "x", "LConstraintHouse$Part;", true) else ("", "", "", false)) else (if k = 130 then ("ConstraintHouse$Among", "of", "Ljava/lang/Object;", true) else ("", "", "", false))) else (if k < 132 then (if k = 131 then ("java/lang/AbstractStringBuilder", "value", "[B", false) else ("", "", "", false)) else (if k = 132 then ("java/lang/AbstractStringBuilder", "coder", "B", false) else ("", "", "", false)))))) else (if k < 140 then (if k < 136 then (if k < 134 then (if k = 133 then ("java/lang/AbstractStringBuilder", "maybeLatin1", "Z", false) else ("", "", "", false)) else (if k < 135 then (if k = 134 then ("java/lang/AbstractStringBuilder", "count", "I", false) else ("", "", "", false)) else (if k = 135 then ("ConstraintHouse$Row", "sort", "I", true) else ("", "", "", false)))) else (if k < 138 then (if k < 137 then (if k = 136 then ("ConstraintHouse$Row", "cells", "[LConstraintHouse$Variable;", true) else ("", "", "", false)) else (if k = 137 then ("ConstraintHouse$Row", "weights", "[I", false) else ("", "", "", false))) else (if k < 139 then (if k = 138 then ("ConstraintHouseModel", "thrown", "I", false) else ("", "", "", false)) else (if k = 139 then ("ConstraintHouseModel", "tape", "[B", true) else ("", "", "", false))))) else (if k < 144 then (if k < 142 then (if k < 141 then (if k = 140 then ("ConstraintHouseModel", "fed", "I", false) else ("", "", "", false)) else (if k = 141 then ("ConstraintHouseModel", "size", "I", false) else ("", "", "", false))) else (if k < 143 then (if k = 142 then ("ConstraintHouseModel", "kind", "[B", true) else ("", "", "", false)) else (if k = 143 then ("ConstraintHouseModel", "from", "[I", true) else ("", "", "", false)))) else (if k < 146 then (if k < 145 then (if k = 144 then ("ConstraintHouseModel", "to", "[I", true) else ("", "", "", false)) else (if k = 145 then ("ConstraintHouseModel", "now", "I", false) else ("", "", "", false))) else (if k < 147 then (if k = 146 then ("ConstraintHouseModel", "first", "I", false) else ("", "", "", false)) else (if k = 147 then ("ConstraintHouseModel", "begun", "I", false) else ("", "", "", false))))))) else (if k < 163 then (if k < 155 then (if k < 151 then (if k < 149 then (if k = 148 then ("ConstraintHouseModel", "wrongAt", "I", false) else ("", "", "", false)) else (if k < 150 then (if k = 149 then ("ConstraintHouseModel", "nameKey", "[J", true) else ("", "", "", false)) else (if k = 150 then ("ConstraintHouseModel", "nameSort", "[B", true) else ("", "", "", false)))) else (if k < 153 then (if k < 152 then (if k = 151 then ("ConstraintHouseModel", "nameOf", "[I", true) else ("", "", "", false)) else (if k = 152 then ("ConstraintHouseModel", "names", "I", false) else ("", "", "", false))) else (if k < 154 then (if k = 153 then ("ConstraintHouseModel", "lets", "I", false) else ("", "", "", false)) else (if k = 154 then ("ConstraintHouseModel", "sorts", "[B", true) else ("", "", "", false))))) else (if k < 159 then (if k < 157 then (if k < 156 then (if k = 155 then ("ConstraintHouseModel", "has", "[Z", true) else ("", "", "", false)) else (if k = 156 then ("ConstraintHouseModel", "least", "[D", true) else ("", "", "", false))) else (if k < 158 then (if k = 157 then ("ConstraintHouseModel", "most", "[D", true) else ("", "", "", false)) else (if k = 158 then ("ConstraintHouseModel", "numbers", "[I", true) else ("", "", "", false)))) else (if k < 161 then (if k < 160 then (if k = 159 then ("ConstraintHouseModel", "many", "[I", true) else ("", "", "", false)) else (if k = 160 then ("ConstraintHouseModel", "may", "[J", true) else ("", "", "", false))) else (if k < 162 then (if k = 161 then ("ConstraintHouseModel", "variables", "I", false) else ("", "", "", false)) else (if k = 162 then ("ConstraintHouseModel", "rowSort", "[B", true) else ("", "", "", false)))))) else (if k < 170 then (if k < 166 then (if k < 164 then (if k = 163 then ("ConstraintHouseModel", "rowMany", "[I", true) else ("", "", "", false)) else (if k < 165 then (if k = 164 then ("ConstraintHouseModel", "places", "[I", true) else ("", "", "", false)) else (if k = 165 then ("ConstraintHouseModel", "weights", "[I", true) else ("", "", "", false)))) else (if k < 168 then (if k < 167 then (if k = 166 then ("ConstraintHouseModel", "isWeighed", "[Z", true) else ("", "", "", false)) else (if k = 167 then ("ConstraintHouseModel", "rows", "I", false) else ("", "", "", false))) else (if k < 169 then (if k = 168 then ("ConstraintHouseModel", "precision", "D", false) else ("", "", "", false)) else (if k = 169 then ("ConstraintHouseModel", "fault", "I", false) else ("", "", "", false))))) else (if k < 174 then (if k < 172 then (if k < 171 then (if k = 170 then ("ConstraintHouseModel", "faultKind", "I", false) else ("", "", "", false)) else (if k = 171 then ("ConstraintHouseModel", "faultAt", "I", false) else ("", "", "", false))) else (if k < 173 then (if k = 172 then ("ConstraintHouseModel", "faultPlace", "I", false) else ("", "", "", false)) else (if k = 173 then ("ConstraintHouseModel", "valueSort", "I", false) else ("", "", "", false)))) else (if k < 176 then (if k < 175 then (if k = 174 then ("ConstraintHouseModel", "valueLow", "D", false) else ("", "", "", false)) else (if k = 175 then ("ConstraintHouseModel", "valueHigh", "D", false) else ("", "", "", false))) else (if k < 177 then (if k = 176 then ("ConstraintHouseModel", "valueSet", "[I", true) else ("", "", "", false)) else (if k = 177 then ("ConstraintHouseModel", "valueMany", "I", false) else ("", "", "", false)))))))) else (if k < 208 then (if k < 193 then (if k < 185 then (if k < 181 then (if k < 179 then (if k = 178 then ("ConstraintHouseModel", "valueMay", "J", false) else ("", "", "", false)) else (if k < 180 then (if k = 179 then ("ConstraintHouseModel", "taken", "[I", true) else ("", "", "", false)) else (if k = 180 then ("ConstraintHouseModel", "op", "[B", true) else ("", "", "", false)))) else (if k < 183 then (if k < 182 then (if k = 181 then ("ConstraintHouseModel", "sortOf", "[B", true) else ("", "", "", false)) else (if k = 182 then ("ConstraintHouseModel", "one", "[I", true) else ("", "", "", false))) else (if k < 184 then (if k = 183 then ("ConstraintHouseModel", "two", "[I", true) else ("", "", "", false)) else (if k = 184 then ("ConstraintHouseModel", "three", "[I", true) else ("", "", "", false))))) else (if k < 189 then (if k < 187 then (if k < 186 then (if k = 185 then ("ConstraintHouseModel", "numA", "[D", true) else ("", "", "", false)) else (if k = 186 then ("ConstraintHouseModel", "numB", "[D", true) else ("", "", "", false))) else (if k < 188 then (if k = 187 then ("ConstraintHouseModel", "made", "I", false) else ("", "", "", false)) else (if k = 188 then ("ConstraintHouseModel", "exFrom", "I", false) else ("", "", "", false)))) else (if k < 191 then (if k < 190 then (if k = 189 then ("ConstraintHouseModel", "pool", "[I", false) else ("", "", "", false)) else (if k = 190 then ("ConstraintHouseModel", "pooled", "I", false) else ("", "", "", false))) else (if k < 192 then (if k = 191 then ("ConstraintHouseModel", "ruleFrom", "[I", true) else ("", "", "", false)) else (if k = 192 then ("ConstraintHouseModel", "ruleTo", "[I", true) else ("", "", "", false)))))) else (if k < 200 then (if k < 196 then (if k < 194 then (if k = 193 then ("ConstraintHouseModel", "rules", "I", false) else ("", "", "", false)) else (if k < 195 then (if k = 194 then ("ConstraintHouseModel", "parts", "I", false) else ("", "", "", false)) else (if k = 195 then ("ConstraintHouseModel", "aimFrom", "I", false) else ("", "", "", false)))) else (if k < 198 then (if k < 197 then (if k = 196 then ("ConstraintHouseModel", "aimMany", "I", false) else ("", "", "", false)) else (if k = 197 then ("ConstraintHouseModel", "order", "[I", true) else ("", "", "", false))) else (if k < 199 then (if k = 198 then ("ConstraintHouseModel", "waits", "[I", true) else ("", "", "", false)) else (if k = 199 then ("ConstraintHouseModel", "waiting", "I", false) else ("", "", "", false))))) else (if k < 204 then (if k < 202 then (if k < 201 then (if k = 200 then ("ConstraintHouseModel", "lo", "[D", true) else ("", "", "", false)) else (if k = 201 then ("ConstraintHouseModel", "hi", "[D", true) else ("", "", "", false))) else (if k < 203 then (if k = 202 then ("ConstraintHouseModel", "ms", "[J", true) else ("", "", "", false)) else (if k = 203 then ("ConstraintHouseModel", "base", "I", false) else ("", "", "", false)))) else (if k < 206 then (if k < 205 then (if k = 204 then ("ConstraintHouseModel", "gone", "I", false) else ("", "", "", false)) else (if k = 205 then ("ConstraintHouseModel", "forwardParts", "I", false) else ("", "", "", false))) else (if k < 207 then (if k = 206 then ("ConstraintHouseModel", "low", "D", false) else ("", "", "", false)) else (if k = 207 then ("ConstraintHouseModel", "high", "D", false) else ("", "", "", false))))))) else (if k < 223 then (if k < 215 then (if k < 211 then (if k < 209 then (if k = 208 then ("ConstraintHouseModel", "wasLeast", "[D", true) else ("", "", "", false)) else (if k < 210 then (if k = 209 then ("ConstraintHouseModel", "wasMost", "[D", true) else ("", "", "", false)) else (if k = 210 then ("ConstraintHouseModel", "wasMay", "[J", true) else ("", "", "", false)))) else (if k < 213 then (if k < 212 then (if k = 211 then ("ConstraintHouseModel", "ruleAt", "I", false) else ("", "", "", false)) else (if k = 212 then ("ConstraintHouseModel", "roundMany", "I", false) else ("", "", "", false))) else (if k < 214 then (if k = 213 then ("ConstraintHouseModel", "ruleMany", "I", false) else ("", "", "", false)) else (if k = 214 then ("ConstraintHouseModel", "stepMany", "I", false) else ("", "", "", false))))) else (if k < 219 then (if k < 217 then (if k < 216 then (if k = 215 then ("ConstraintHouseModel", "emptyMany", "I", false) else ("", "", "", false)) else (if k = 216 then ("ConstraintHouseModel", "boxMany", "I", false) else ("", "", "", false))) else (if k < 218 then (if k = 217 then ("ConstraintHouseModel", "told", "[I", true) else ("", "", "", false)) else (if k = 218 then ("ConstraintHouseModel", "isTold", "Z", false) else ("", "", "", false)))) else (if k < 221 then (if k < 220 then (if k = 219 then ("ConstraintHouseModel", "rounds", "I", false) else ("", "", "", false)) else (if k = 220 then ("ConstraintHouseModel", "isSearching", "Z", false) else ("", "", "", false))) else (if k < 222 then (if k = 221 then ("ConstraintHouseModel", "isLeast", "Z", false) else ("", "", "", false)) else (if k = 222 then ("ConstraintHouseModel", "hasBound", "Z", false) else ("", "", "", false)))))) else (if k < 230 then (if k < 226 then (if k < 224 then (if k = 223 then ("ConstraintHouseModel", "hasBest", "Z", false) else ("", "", "", false)) else (if k < 225 then (if k = 224 then ("ConstraintHouseModel", "bound", "D", false) else ("", "", "", false)) else (if k = 225 then ("ConstraintHouseModel", "pile", "I", false) else ("", "", "", false)))) else (if k < 228 then (if k < 227 then (if k = 226 then ("ConstraintHouseModel", "nodeLeast", "[D", false) else ("", "", "", false)) else (if k = 227 then ("ConstraintHouseModel", "nodeMost", "[D", false) else ("", "", "", false))) else (if k < 229 then (if k = 228 then ("ConstraintHouseModel", "nodeMay", "[J", false) else ("", "", "", false)) else (if k = 229 then ("ConstraintHouseModel", "firstLeast", "[D", true) else ("", "", "", false))))) else (if k < 234 then (if k < 232 then (if k < 231 then (if k = 230 then ("ConstraintHouseModel", "firstMost", "[D", true) else ("", "", "", false)) else (if k = 231 then ("ConstraintHouseModel", "bestLeast", "[D", true) else ("", "", "", false))) else (if k < 233 then (if k = 232 then ("ConstraintHouseModel", "bestMost", "[D", true) else ("", "", "", false)) else (if k = 233 then ("ConstraintHouseModel", "firstMay", "[J", true) else ("", "", "", false)))) else (if k < 236 then (if k < 235 then (if k = 234 then ("ConstraintHouseModel", "bestMay", "[J", true) else ("", "", "", false)) else (if k = 235 then ("ConstraintHouseModel", "bestNumbers", "[I", true) else ("", "", "", false))) else (if k < 237 then (if k = 236 then ("ConstraintHouseModel", "bestHas", "[Z", true) else ("", "", "", false)) else (if k = 237 then ("ConstraintHouseModel", "bestMany", "I", false) else ("", "", "", false)))))))))
def ownS (k : Nat) : String := if k < 36 then (if k < 18 then (if k < 9 then (if k < 4 then (if k < 2 then (if k < 1 then (if k = 0 then "java/lang/Throwable" else "") else (if k = 1 then "java/lang/Exception" else "")) else (if k < 3 then (if k = 2 then "java/lang/RuntimeException" else "") else (if k = 3 then "java/lang/String" else ""))) else (if k < 6 then (if k < 5 then (if k = 4 then "java/lang/StringLatin1" else "") else (if k = 5 then "jdk/internal/util/Preconditions" else "")) else (if k < 7 then (if k = 6 then "java/lang/StringUTF16" else "") else (if k < 8 then (if k = 7 then "java/lang/ArithmeticException" else "") else (if k = 8 then "java/lang/IndexOutOfBoundsException" else ""))))) else (if k < 13 then (if k < 11 then (if k < 10 then (if k = 9 then "java/lang/ArrayIndexOutOfBoundsException" else "") else (if k = 10 then "java/lang/NullPointerException" else "")) else (if k < 12 then (if k = 11 then "java/lang/AbstractStringBuilder" else "") else (if k = 12 then "java/lang/StringBuilder" else ""))) else (if k < 15 then (if k < 14 then (if k = 13 then "java/lang/NegativeArraySizeException" else "") else (if k = 14 then "jdk/internal/util/ArraysSupport" else "")) else (if k < 16 then (if k = 15 then "java/lang/Math" else "") else (if k < 17 then (if k = 16 then "java/util/Arrays" else "") else (if k = 17 then "java/lang/ClassCastException" else "")))))) else (if k < 27 then (if k < 22 then (if k < 20 then (if k < 19 then (if k = 18 then "java/lang/Float" else "") else (if k = 19 then "java/lang/StrictMath" else "")) else (if k < 21 then (if k = 20 then "java/lang/Double" else "") else (if k = 21 then "java/lang/ArrayStoreException" else ""))) else (if k < 24 then (if k < 23 then (if k = 22 then "java/lang/Character" else "") else (if k = 23 then "java/lang/Long" else "")) else (if k < 25 then (if k = 24 then "java/lang/FdLibm$Sqrt" else "") else (if k < 26 then (if k = 25 then "java/lang/FdLibm" else "") else (if k = 26 then "java/lang/Integer" else ""))))) else (if k < 31 then (if k < 29 then (if k < 28 then (if k = 27 then "java/lang/IllegalStateException" else "") else (if k = 28 then "java/util/NoSuchElementException" else "")) else (if k < 30 then (if k = 29 then "java/lang/Object" else "") else (if k = 30 then "ConstraintHouseLaw" else ""))) else (if k < 33 then (if k < 32 then (if k = 31 then "ConstraintHouse" else "") else (if k = 32 then "ConstraintHouse$Reader" else "")) else (if k < 34 then (if k = 33 then "ConstraintHouse$Solver" else "") else (if k < 35 then (if k = 34 then "ConstraintHouse$Doer" else "") else (if k = 35 then "ConstraintHouse$Fault" else ""))))))) else (if k < 54 then (if k < 45 then (if k < 40 then (if k < 38 then (if k < 37 then (if k = 36 then "ConstraintHouse$Variable" else "") else (if k = 37 then "ConstraintHouse$Numeric" else "")) else (if k < 39 then (if k = 38 then "ConstraintHouse$Real" else "") else (if k = 39 then "ConstraintHouse$Small" else ""))) else (if k < 42 then (if k < 41 then (if k = 40 then "ConstraintHouse$Whole" else "") else (if k = 41 then "ConstraintHouse$Truth" else "")) else (if k < 43 then (if k = 42 then "ConstraintHouse$Letter" else "") else (if k < 44 then (if k = 43 then "ConstraintHouseModel" else "") else (if k = 44 then "ConstraintHouse$Bounds" else ""))))) else (if k < 49 then (if k < 47 then (if k < 46 then (if k = 45 then "ConstraintHouse$Part" else "") else (if k = 46 then "ConstraintHouse$Constant" else "")) else (if k < 48 then (if k = 47 then "ConstraintHouse$Leaf" else "") else (if k = 48 then "ConstraintHouse$Single" else ""))) else (if k < 51 then (if k < 50 then (if k = 49 then "ConstraintHouse$Negated" else "") else (if k = 50 then "ConstraintHouse$Magnitude" else "")) else (if k < 52 then (if k = 51 then "ConstraintHouse$Square" else "") else (if k < 53 then (if k = 52 then "ConstraintHouse$Root" else "") else (if k = 53 then "ConstraintHouse$Stairs" else "")))))) else (if k < 63 then (if k < 58 then (if k < 56 then (if k < 55 then (if k = 54 then "ConstraintHouse$Pair" else "") else (if k = 55 then "ConstraintHouse$Sum" else "")) else (if k < 57 then (if k = 56 then "ConstraintHouse$Difference" else "") else (if k = 57 then "ConstraintHouse$Scaled" else ""))) else (if k < 60 then (if k < 59 then (if k = 58 then "ConstraintHouse$Product" else "") else (if k = 59 then "ConstraintHouse$Quotient" else "")) else (if k < 61 then (if k = 60 then "ConstraintHouse$Extreme" else "") else (if k < 62 then (if k = 61 then "ConstraintHouse$Judged" else "") else (if k = 62 then "ConstraintHouse$Relation" else ""))))) else (if k < 67 then (if k < 65 then (if k < 64 then (if k = 63 then "ConstraintHouse$Alike" else "") else (if k = 64 then "ConstraintHouse$Order" else "")) else (if k < 66 then (if k = 65 then "ConstraintHouse$Logic" else "") else (if k = 66 then "ConstraintHouse$Not" else ""))) else (if k < 69 then (if k < 68 then (if k = 67 then "ConstraintHouse$Choice" else "") else (if k = 68 then "ConstraintHouse$Among" else "")) else (if k < 70 then (if k = 69 then "ConstraintHouse$Row" else "") else (if k < 71 then (if k = 70 then "ConstraintHouse$Splits" else "") else (if k = 71 then "ConstraintHouse$Turns" else "")))))))
def T0 : u_T := fun _ => ("", "", "", false)
/-- the class of a kind -/
def kNm (k : Nat) : String := if k < 31 then (if k < 15 then (if k < 7 then (if k < 3 then (if k < 1 then (if k = 0 then "ConstraintHouse" else "") else (if k < 2 then (if k = 1 then "ConstraintHouse$Reader" else "") else (if k = 2 then "ConstraintHouse$Solver" else ""))) else (if k < 5 then (if k < 4 then (if k = 3 then "ConstraintHouse$Doer" else "") else (if k = 4 then "ConstraintHouse$Fault" else "")) else (if k < 6 then (if k = 5 then "java/lang/NullPointerException" else "") else (if k = 6 then "java/lang/Throwable" else "")))) else (if k < 11 then (if k < 9 then (if k < 8 then (if k = 7 then "ConstraintHouse$Real" else "") else (if k = 8 then "ConstraintHouse$Small" else "")) else (if k < 10 then (if k = 9 then "ConstraintHouse$Whole" else "") else (if k = 10 then "ConstraintHouse$Truth" else ""))) else (if k < 13 then (if k < 12 then (if k = 11 then "ConstraintHouse$Letter" else "") else (if k = 12 then "java/lang/ArithmeticException" else "")) else (if k < 14 then (if k = 13 then "java/lang/String" else "") else (if k = 14 then "java/lang/ArrayIndexOutOfBoundsException" else ""))))) else (if k < 23 then (if k < 19 then (if k < 17 then (if k < 16 then (if k = 15 then "ConstraintHouse$Constant" else "") else (if k = 16 then "ConstraintHouse$Leaf" else "")) else (if k < 18 then (if k = 17 then "ConstraintHouse$Negated" else "") else (if k = 18 then "ConstraintHouse$Magnitude" else ""))) else (if k < 21 then (if k < 20 then (if k = 19 then "ConstraintHouse$Square" else "") else (if k = 20 then "ConstraintHouse$Root" else "")) else (if k < 22 then (if k = 21 then "ConstraintHouse$Stairs" else "") else (if k = 22 then "ConstraintHouse$Sum" else "")))) else (if k < 27 then (if k < 25 then (if k < 24 then (if k = 23 then "ConstraintHouse$Difference" else "") else (if k = 24 then "ConstraintHouse$Product" else "")) else (if k < 26 then (if k = 25 then "ConstraintHouse$Quotient" else "") else (if k = 26 then "ConstraintHouse$Extreme" else ""))) else (if k < 29 then (if k < 28 then (if k = 27 then "ConstraintHouse$Alike" else "") else (if k = 28 then "ConstraintHouse$Order" else "")) else (if k < 30 then (if k = 29 then "ConstraintHouse$Logic" else "") else (if k = 30 then "ConstraintHouse$Not" else "")))))) else (if k < 202 then (if k < 39 then (if k < 35 then (if k < 33 then (if k < 32 then (if k = 31 then "ConstraintHouse$Choice" else "") else (if k = 32 then "ConstraintHouse$Among" else "")) else (if k < 34 then (if k = 33 then "java/lang/StringBuilder" else "") else (if k = 34 then "java/lang/NegativeArraySizeException" else ""))) else (if k < 37 then (if k < 36 then (if k = 35 then "java/lang/ClassCastException" else "") else (if k = 36 then "ConstraintHouse$Row" else "")) else (if k < 38 then (if k = 37 then "java/lang/ArrayStoreException" else "") else (if k = 38 then "java/lang/IllegalStateException" else "")))) else (if k < 43 then (if k < 41 then (if k < 40 then (if k = 39 then "java/lang/IndexOutOfBoundsException" else "") else (if k = 40 then "java/util/NoSuchElementException" else "")) else (if k < 42 then (if k = 41 then "ConstraintHouseModel" else "") else (if k = 42 then "ConstraintHouse$Nothing" else ""))) else (if k < 200 then (if k < 44 then (if k = 43 then "ConstraintHouse$Absent" else "") else (if k = 44 then "ConstraintHouse$Wrong" else "")) else (if k < 201 then (if k = 200 then "[Z" else "") else (if k = 201 then "[B" else ""))))) else (if k < 212 then (if k < 206 then (if k < 204 then (if k < 203 then (if k = 202 then "[C" else "") else (if k = 203 then "[S" else "")) else (if k < 205 then (if k = 204 then "[I" else "") else (if k = 205 then "[J" else ""))) else (if k < 210 then (if k < 207 then (if k = 206 then "[F" else "") else (if k = 207 then "[D" else "")) else (if k < 211 then (if k = 210 then "[Ljava/lang/String;" else "") else (if k = 211 then "[LConstraintHouse$Variable;" else "")))) else (if k < 216 then (if k < 214 then (if k < 213 then (if k = 212 then "[LConstraintHouse$Part;" else "") else (if k = 213 then "[LConstraintHouse$Row;" else "")) else (if k < 215 then (if k = 214 then "[LConstraintHouse$Real;" else "") else (if k = 215 then "[LConstraintHouse$Small;" else ""))) else (if k < 218 then (if k < 217 then (if k = 216 then "[LConstraintHouse$Whole;" else "") else (if k = 217 then "[LConstraintHouse$Truth;" else "")) else (if k < 302 then (if k = 218 then "[LConstraintHouse$Letter;" else "") else (if k = 302 then "java/lang/String" else ""))))))
/-- the kinds of objects, by their numbers -/
def clL : List vw_C := [(RX1, TX1, 7), (RX2, TX2, 16), (RX3, TX3, 33), (RX4, TX4, 25), (RX5, TX5, 7), ("java/lang/NullPointerException", T0, 0), ("java/lang/Throwable", T0, 0), (RX8, TX8, 3), (RX9, TX9, 3), (RX10, TX10, 4), (RX11, TX11, 3), (RX12, TX12, 4), ("java/lang/ArithmeticException", T0, 0), (RJ3, TJ3, 4), ("java/lang/ArrayIndexOutOfBoundsException", T0, 0), (RX16, TX16, 9), (RX17, TX17, 6), (RX19, TX19, 6), (RX20, TX20, 6), (RX21, TX21, 6), (RX22, TX22, 6), (RX23, TX23, 7), (RX25, TX25, 7), (RX26, TX26, 7), (RX28, TX28, 9), (RX29, TX29, 9), (RX30, TX30, 8), (RX33, TX33, 8), (RX34, TX34, 8), (RX35, TX35, 8), (RX36, TX36, 6), (RX37, TX37, 8), (RX38, TX38, 7), (RJ12, TJ12, 4), ("java/lang/NegativeArraySizeException", T0, 0), ("java/lang/ClassCastException", T0, 0), (RX39, TX39, 3), ("java/lang/ArrayStoreException", T0, 0), ("java/lang/IllegalStateException", T0, 0), ("java/lang/IndexOutOfBoundsException", T0, 0), ("java/util/NoSuchElementException", T0, 0), (RX13, TX13, 100), ("ConstraintHouse$Nothing", T0, 0), ("ConstraintHouse$Absent", T0, 0), ("ConstraintHouse$Wrong", T0, 0)]
def kNPE : Nat := 5
def kAIO : Nat := 14
def kARI : Nat := 12
def kNAS : Nat := 34
def kCCE : Nat := 35
def kASE : Nat := 37
/-- kinds that are thrown -/
def isX (k : Nat) : Bool := [5, 14, 12, 34, 35, 37, 38, 39, 40, 42, 43, 44, 4].contains k
theorem isX_5 : isX 5 = true := rfl
theorem isX_14 : isX 14 = true := rfl
theorem isX_12 : isX 12 = true := rfl
theorem isX_34 : isX 34 = true := rfl
theorem isX_35 : isX 35 = true := rfl
theorem isX_37 : isX 37 = true := rfl
theorem isX_38 : isX 38 = true := rfl
theorem isX_39 : isX 39 = true := rfl
theorem isX_40 : isX 40 = true := rfl
theorem isX_42 : isX 42 = true := rfl
theorem isX_43 : isX 43 = true := rfl
theorem isX_44 : isX 44 = true := rfl
theorem isX_4 : isX 4 = true := rfl
/-- kinds of which nothing is known, not even whether they are there -/
def kOp (k : Nat) : Bool := decide (k = 310)
def fldT_0 : List (Nat × Nat × Nat) := [(7, (81, 8)), (17, (82, 8)), (24, (83, 8)), (31, (84, 8))]
def fldT_3 : List (Nat × Nat × Nat) := [(9, (99, 8)), (15, (100, 2)), (1048, (133, 1))]
def fldT_11 : List (Nat × Nat × Nat) := [(15, (131, 8)), (22, (132, 2)), (79, (134, 0))]
def fldT_31 : List (Nat × Nat × Nat) := [(10, (0, 8)), (19, (1, 8)), (28, (2, 8)), (32, (5, 0)), (36, (6, 0)), (42, (3, 0)), (45, (7, 8)), (49, (4, 0)), (78, (87, 0)), (79, (24, 0)), (94, (37, 0)), (97, (32, 0)), (100, (33, 0)), (103, (31, 0)), (106, (34, 0)), (108, (35, 0)), (111, (36, 0)), (117, (66, 0)), (118, (25, 0)), (121, (67, 0)), (124, (65, 0)), (130, (23, 8)), (147, (90, 8)), (159, (63, 8)), (167, (135, 0)), (171, (136, 8)), (174, (137, 8)), (183, (91, 0)), (191, (26, 8)), (199, (28, 8)), (203, (103, 7)), (209, (104, 7))]
def fldT_32 : List (Nat × Nat × Nat) := [(9, (7, 8)), (15, (8, 8)), (19, (9, 8)), (22, (10, 8)), (101, (11, 8)), (105, (13, 0)), (109, (14, 0)), (112, (18, 0)), (115, (19, 0)), (121, (16, 0)), (124, (15, 0)), (154, (17, 0)), (165, (22, 1)), (171, (21, 7)), (197, (12, 0)), (200, (20, 0))]
def fldT_33 : List (Nat × Nat × Nat) := [(11, (23, 8)), (19, (26, 8)), (23, (27, 8)), (27, (39, 8)), (31, (40, 8)), (34, (41, 8)), (37, (42, 8)), (40, (43, 8)), (44, (44, 8)), (49, (45, 8)), (53, (46, 8)), (57, (47, 8)), (61, (24, 0)), (65, (25, 0)), (68, (28, 8)), (74, (30, 7)), (81, (37, 0)), (84, (50, 1)), (88, (53, 1)), (91, (31, 0)), (94, (32, 0)), (97, (33, 0)), (100, (34, 0)), (103, (35, 0)), (106, (36, 0)), (115, (90, 8)), (164, (38, 5)), (177, (105, 1)), (180, (106, 1)), (215, (48, 0)), (218, (51, 1)), (221, (52, 1)), (224, (54, 1)), (242, (103, 7)), (244, (55, 7)), (265, (29, 0)), (268, (104, 7)), (270, (49, 0))]
def fldT_34 : List (Nat × Nat × Nat) := [(12, (58, 8)), (20, (59, 8)), (24, (60, 8)), (28, (61, 8)), (31, (62, 8)), (36, (63, 8)), (42, (68, 8)), (46, (69, 8)), (49, (70, 8)), (52, (71, 8)), (58, (72, 8)), (62, (73, 8)), (65, (56, 8)), (69, (57, 8)), (77, (64, 0)), (81, (65, 0)), (84, (66, 0)), (117, (7, 8)), (132, (23, 8)), (141, (74, 0)), (144, (75, 0)), (147, (76, 0)), (150, (77, 0)), (153, (80, 8)), (157, (12, 0)), (160, (8, 8)), (163, (9, 8)), (196, (10, 8)), (204, (79, 8)), (221, (136, 8)), (226, (91, 0)), (234, (30, 7)), (262, (135, 0)), (275, (137, 8)), (287, (24, 0)), (288, (90, 8)), (328, (25, 0)), (331, (27, 8)), (334, (78, 0)), (337, (26, 8)), (339, (29, 0)), (342, (28, 8)), (345, (67, 0))]
def fldT_35 : List (Nat × Nat × Nat) := [(7, (87, 0))]
def fldT_38 : List (Nat × Nat × Nat) := [(25, (92, 8)), (28, (90, 8))]
def fldT_39 : List (Nat × Nat × Nat) := [(44, (93, 8)), (48, (90, 8))]
def fldT_40 : List (Nat × Nat × Nat) := [(34, (94, 8)), (38, (95, 0)), (42, (90, 8))]
def fldT_41 : List (Nat × Nat × Nat) := [(25, (96, 8)), (28, (90, 8))]
def fldT_42 : List (Nat × Nat × Nat) := [(24, (97, 8)), (27, (98, 0)), (31, (90, 8))]
def fldT_43 : List (Nat × Nat × Nat) := [(3, (138, 0)), (67, (139, 8)), (71, (142, 8)), (74, (143, 8)), (78, (144, 8)), (81, (149, 8)), (85, (150, 8)), (88, (151, 8)), (91, (154, 8)), (94, (155, 8)), (98, (156, 8)), (102, (157, 8)), (105, (158, 8)), (108, (159, 8)), (111, (160, 8)), (114, (162, 8)), (117, (163, 8)), (120, (164, 8)), (123, (165, 8)), (126, (166, 8)), (129, (171, 0)), (132, (172, 0)), (135, (176, 8)), (138, (179, 8)), (141, (180, 8)), (144, (181, 8)), (147, (182, 8)), (150, (183, 8)), (153, (184, 8)), (156, (185, 8)), (159, (186, 8)), (162, (189, 8)), (165, (191, 8)), (168, (192, 8)), (171, (197, 8)), (174, (198, 8)), (177, (200, 8)), (180, (201, 8)), (183, (202, 8)), (186, (208, 8)), (189, (209, 8)), (192, (210, 8)), (195, (217, 8)), (198, (226, 8)), (201, (229, 8)), (204, (230, 8)), (207, (231, 8)), (210, (232, 8)), (213, (233, 8)), (216, (234, 8)), (219, (235, 8)), (222, (236, 8)), (228, (140, 0)), (235, (141, 0)), (274, (145, 0)), (277, (148, 0)), (280, (146, 0)), (293, (147, 0)), (489, (152, 0)), (492, (153, 0)), (495, (161, 0)), (498, (167, 0)), (501, (193, 0)), (504, (194, 0)), (507, (196, 0)), (512, (168, 7)), (515, (220, 1)), (519, (218, 1)), (522, (223, 1)), (525, (170, 0)), (528, (169, 0)), (556, (174, 7)), (559, (175, 7)), (562, (177, 0)), (565, (173, 0)), (577, (178, 5)), (656, (187, 0)), (659, (188, 0)), (669, (195, 0)), (675, (199, 0)), (704, (190, 0)), (747, (206, 7)), (750, (207, 7)), (791, (203, 0)), (794, (205, 0)), (860, (204, 0)), (926, (211, 0)), (929, (212, 0)), (932, (213, 0)), (935, (214, 0)), (938, (215, 0)), (941, (216, 0)), (944, (219, 0)), (964, (225, 0)), (967, (227, 8)), (970, (228, 8)), (973, (221, 1)), (976, (222, 1)), (993, (224, 7)), (1007, (237, 0))]
def fldT_45 : List (Nat × Nat × Nat) := [(11, (103, 7)), (17, (104, 7)), (20, (105, 1)), (24, (106, 1)), (27, (31, 0)), (51, (107, 0))]
def fldT_46 : List (Nat × Nat × Nat) := [(7, (108, 0)), (13, (110, 7)), (17, (111, 1)), (21, (109, 0)), (31, (107, 0))]
def fldT_47 : List (Nat × Nat × Nat) := [(9, (112, 8)), (49, (107, 0)), (53, (105, 1)), (57, (106, 1)), (64, (103, 7)), (67, (104, 7))]
def fldT_48 : List (Nat × Nat × Nat) := [(7, (113, 8))]
def fldT_49 : List (Nat × Nat × Nat) := [(7, (113, 8)), (13, (104, 7)), (25, (103, 7)), (32, (104, 7)), (33, (103, 7))]
def fldT_50 : List (Nat × Nat × Nat) := [(7, (113, 8)), (13, (103, 7)), (19, (104, 7)), (36, (103, 7)), (37, (104, 7))]
def fldT_51 : List (Nat × Nat × Nat) := [(11, (103, 7)), (28, (104, 7))]
def fldT_52 : List (Nat × Nat × Nat) := [(22, (113, 8)), (28, (104, 7)), (40, (103, 7)), (51, (103, 7)), (52, (104, 7))]
def fldT_53 : List (Nat × Nat × Nat) := [(7, (114, 0)), (30, (113, 8)), (34, (103, 7)), (43, (104, 7)), (50, (103, 7)), (58, (104, 7))]
def fldT_54 : List (Nat × Nat × Nat) := [(9, (115, 8)), (15, (116, 8)), (25, (31, 0))]
def fldT_55 : List (Nat × Nat × Nat) := [(7, (115, 8)), (13, (103, 7)), (19, (116, 8)), (27, (104, 7))]
def fldT_56 : List (Nat × Nat × Nat) := [(7, (115, 8)), (13, (103, 7)), (19, (116, 8)), (22, (104, 7)), (36, (103, 7)), (37, (104, 7))]
def fldT_57 : List (Nat × Nat × Nat) := [(7, (103, 7)), (13, (104, 7)), (42, (117, 7)), (45, (118, 7))]
def fldT_58 : List (Nat × Nat × Nat) := [(7, (115, 8)), (13, (103, 7)), (19, (104, 7)), (22, (116, 8)), (33, (103, 7)), (34, (104, 7))]
def fldT_59 : List (Nat × Nat × Nat) := [(7, (115, 8)), (13, (103, 7)), (19, (104, 7)), (22, (116, 8)), (33, (103, 7)), (34, (104, 7))]
def fldT_60 : List (Nat × Nat × Nat) := [(7, (119, 1)), (13, (115, 8)), (17, (103, 7)), (23, (116, 8)), (32, (104, 7)), (42, (103, 7)), (48, (104, 7))]
def fldT_61 : List (Nat × Nat × Nat) := [(7, (105, 1)), (13, (106, 1))]
def fldT_62 : List (Nat × Nat × Nat) := [(9, (120, 8)), (15, (121, 8)), (27, (105, 1)), (31, (106, 1)), (34, (31, 0))]
def fldT_63 : List (Nat × Nat × Nat) := [(7, (122, 1)), (19, (103, 7)), (23, (104, 7)), (26, (105, 1)), (29, (106, 1)), (32, (107, 0)), (42, (120, 8)), (46, (121, 8)), (60, (106, 1))]
def fldT_64 : List (Nat × Nat × Nat) := [(7, (123, 1)), (13, (120, 8)), (17, (104, 7)), (23, (121, 8)), (26, (103, 7)), (33, (106, 1))]
def fldT_65 : List (Nat × Nat × Nat) := [(7, (124, 0)), (13, (120, 8)), (17, (105, 1)), (23, (121, 8)), (26, (106, 1)), (43, (106, 1))]
def fldT_66 : List (Nat × Nat × Nat) := [(7, (125, 8)), (19, (106, 1)), (23, (105, 1)), (30, (106, 1)), (31, (105, 1))]
def fldT_67 : List (Nat × Nat × Nat) := [(7, (126, 8)), (13, (127, 8)), (16, (128, 8)), (27, (105, 1)), (35, (106, 1)), (38, (103, 7)), (48, (104, 7)), (62, (107, 0)), (66, (107, 0)), (68, (105, 1)), (69, (106, 1))]
def fldT_68 : List (Nat × Nat × Nat) := [(7, (129, 8)), (13, (130, 8)), (43, (103, 7)), (47, (104, 7)), (54, (107, 0)), (63, (106, 1))]
def fldT_69 : List (Nat × Nat × Nat) := [(7, (135, 0)), (13, (136, 8))]
def fldTL : List (Nat × List (Nat × Nat × Nat)) := [(0, fldT_0), (3, fldT_3), (11, fldT_11), (31, fldT_31), (32, fldT_32), (33, fldT_33), (34, fldT_34), (35, fldT_35), (38, fldT_38), (39, fldT_39), (40, fldT_40), (41, fldT_41), (42, fldT_42), (43, fldT_43), (45, fldT_45), (46, fldT_46), (47, fldT_47), (48, fldT_48), (49, fldT_49), (50, fldT_50), (51, fldT_51), (52, fldT_52), (53, fldT_53), (54, fldT_54), (55, fldT_55), (56, fldT_56), (57, fldT_57), (58, fldT_58), (59, fldT_59), (60, fldT_60), (61, fldT_61), (62, fldT_62), (63, fldT_63), (64, fldT_64), (65, fldT_65), (66, fldT_66), (67, fldT_67), (68, fldT_68), (69, fldT_69)]
def fldT (o i : Nat) : Option (Nat × Nat) := tb fldTL o i
theorem fT_0_7 : fldT 0 7 = some ((81, 8)) := rfl
theorem fT_0_17 : fldT 0 17 = some ((82, 8)) := rfl
theorem fT_0_24 : fldT 0 24 = some ((83, 8)) := rfl
theorem fT_0_31 : fldT 0 31 = some ((84, 8)) := rfl
theorem fT_3_9 : fldT 3 9 = some ((99, 8)) := rfl
theorem fT_3_15 : fldT 3 15 = some ((100, 2)) := rfl
theorem fT_3_1048 : fldT 3 1048 = some ((133, 1)) := rfl
theorem fT_11_15 : fldT 11 15 = some ((131, 8)) := rfl
theorem fT_11_22 : fldT 11 22 = some ((132, 2)) := rfl
theorem fT_11_79 : fldT 11 79 = some ((134, 0)) := rfl
theorem fT_31_10 : fldT 31 10 = some ((0, 8)) := rfl
theorem fT_31_19 : fldT 31 19 = some ((1, 8)) := rfl
theorem fT_31_28 : fldT 31 28 = some ((2, 8)) := rfl
theorem fT_31_32 : fldT 31 32 = some ((5, 0)) := rfl
theorem fT_31_36 : fldT 31 36 = some ((6, 0)) := rfl
theorem fT_31_42 : fldT 31 42 = some ((3, 0)) := rfl
theorem fT_31_45 : fldT 31 45 = some ((7, 8)) := rfl
theorem fT_31_49 : fldT 31 49 = some ((4, 0)) := rfl
theorem fT_31_78 : fldT 31 78 = some ((87, 0)) := rfl
theorem fT_31_79 : fldT 31 79 = some ((24, 0)) := rfl
theorem fT_31_94 : fldT 31 94 = some ((37, 0)) := rfl
theorem fT_31_97 : fldT 31 97 = some ((32, 0)) := rfl
theorem fT_31_100 : fldT 31 100 = some ((33, 0)) := rfl
theorem fT_31_103 : fldT 31 103 = some ((31, 0)) := rfl
theorem fT_31_106 : fldT 31 106 = some ((34, 0)) := rfl
theorem fT_31_108 : fldT 31 108 = some ((35, 0)) := rfl
theorem fT_31_111 : fldT 31 111 = some ((36, 0)) := rfl
theorem fT_31_117 : fldT 31 117 = some ((66, 0)) := rfl
theorem fT_31_118 : fldT 31 118 = some ((25, 0)) := rfl
theorem fT_31_121 : fldT 31 121 = some ((67, 0)) := rfl
theorem fT_31_124 : fldT 31 124 = some ((65, 0)) := rfl
theorem fT_31_130 : fldT 31 130 = some ((23, 8)) := rfl
theorem fT_31_147 : fldT 31 147 = some ((90, 8)) := rfl
theorem fT_31_159 : fldT 31 159 = some ((63, 8)) := rfl
theorem fT_31_167 : fldT 31 167 = some ((135, 0)) := rfl
theorem fT_31_171 : fldT 31 171 = some ((136, 8)) := rfl
theorem fT_31_174 : fldT 31 174 = some ((137, 8)) := rfl
theorem fT_31_183 : fldT 31 183 = some ((91, 0)) := rfl
theorem fT_31_191 : fldT 31 191 = some ((26, 8)) := rfl
theorem fT_31_199 : fldT 31 199 = some ((28, 8)) := rfl
theorem fT_31_203 : fldT 31 203 = some ((103, 7)) := rfl
theorem fT_31_209 : fldT 31 209 = some ((104, 7)) := rfl
theorem fT_32_9 : fldT 32 9 = some ((7, 8)) := rfl
theorem fT_32_15 : fldT 32 15 = some ((8, 8)) := rfl
theorem fT_32_19 : fldT 32 19 = some ((9, 8)) := rfl
theorem fT_32_22 : fldT 32 22 = some ((10, 8)) := rfl
theorem fT_32_101 : fldT 32 101 = some ((11, 8)) := rfl
theorem fT_32_105 : fldT 32 105 = some ((13, 0)) := rfl
theorem fT_32_109 : fldT 32 109 = some ((14, 0)) := rfl
theorem fT_32_112 : fldT 32 112 = some ((18, 0)) := rfl
theorem fT_32_115 : fldT 32 115 = some ((19, 0)) := rfl
theorem fT_32_121 : fldT 32 121 = some ((16, 0)) := rfl
theorem fT_32_124 : fldT 32 124 = some ((15, 0)) := rfl
theorem fT_32_154 : fldT 32 154 = some ((17, 0)) := rfl
theorem fT_32_165 : fldT 32 165 = some ((22, 1)) := rfl
theorem fT_32_171 : fldT 32 171 = some ((21, 7)) := rfl
theorem fT_32_197 : fldT 32 197 = some ((12, 0)) := rfl
theorem fT_32_200 : fldT 32 200 = some ((20, 0)) := rfl
theorem fT_33_11 : fldT 33 11 = some ((23, 8)) := rfl
theorem fT_33_19 : fldT 33 19 = some ((26, 8)) := rfl
theorem fT_33_23 : fldT 33 23 = some ((27, 8)) := rfl
theorem fT_33_27 : fldT 33 27 = some ((39, 8)) := rfl
theorem fT_33_31 : fldT 33 31 = some ((40, 8)) := rfl
theorem fT_33_34 : fldT 33 34 = some ((41, 8)) := rfl
theorem fT_33_37 : fldT 33 37 = some ((42, 8)) := rfl
theorem fT_33_40 : fldT 33 40 = some ((43, 8)) := rfl
theorem fT_33_44 : fldT 33 44 = some ((44, 8)) := rfl
theorem fT_33_49 : fldT 33 49 = some ((45, 8)) := rfl
theorem fT_33_53 : fldT 33 53 = some ((46, 8)) := rfl
theorem fT_33_57 : fldT 33 57 = some ((47, 8)) := rfl
theorem fT_33_61 : fldT 33 61 = some ((24, 0)) := rfl
theorem fT_33_65 : fldT 33 65 = some ((25, 0)) := rfl
theorem fT_33_68 : fldT 33 68 = some ((28, 8)) := rfl
theorem fT_33_74 : fldT 33 74 = some ((30, 7)) := rfl
theorem fT_33_81 : fldT 33 81 = some ((37, 0)) := rfl
theorem fT_33_84 : fldT 33 84 = some ((50, 1)) := rfl
theorem fT_33_88 : fldT 33 88 = some ((53, 1)) := rfl
theorem fT_33_91 : fldT 33 91 = some ((31, 0)) := rfl
theorem fT_33_94 : fldT 33 94 = some ((32, 0)) := rfl
theorem fT_33_97 : fldT 33 97 = some ((33, 0)) := rfl
theorem fT_33_100 : fldT 33 100 = some ((34, 0)) := rfl
theorem fT_33_103 : fldT 33 103 = some ((35, 0)) := rfl
theorem fT_33_106 : fldT 33 106 = some ((36, 0)) := rfl
theorem fT_33_115 : fldT 33 115 = some ((90, 8)) := rfl
theorem fT_33_164 : fldT 33 164 = some ((38, 5)) := rfl
theorem fT_33_177 : fldT 33 177 = some ((105, 1)) := rfl
theorem fT_33_180 : fldT 33 180 = some ((106, 1)) := rfl
theorem fT_33_215 : fldT 33 215 = some ((48, 0)) := rfl
theorem fT_33_218 : fldT 33 218 = some ((51, 1)) := rfl
theorem fT_33_221 : fldT 33 221 = some ((52, 1)) := rfl
theorem fT_33_224 : fldT 33 224 = some ((54, 1)) := rfl
theorem fT_33_242 : fldT 33 242 = some ((103, 7)) := rfl
theorem fT_33_244 : fldT 33 244 = some ((55, 7)) := rfl
theorem fT_33_265 : fldT 33 265 = some ((29, 0)) := rfl
theorem fT_33_268 : fldT 33 268 = some ((104, 7)) := rfl
theorem fT_33_270 : fldT 33 270 = some ((49, 0)) := rfl
theorem fT_34_12 : fldT 34 12 = some ((58, 8)) := rfl
theorem fT_34_20 : fldT 34 20 = some ((59, 8)) := rfl
theorem fT_34_24 : fldT 34 24 = some ((60, 8)) := rfl
theorem fT_34_28 : fldT 34 28 = some ((61, 8)) := rfl
theorem fT_34_31 : fldT 34 31 = some ((62, 8)) := rfl
theorem fT_34_36 : fldT 34 36 = some ((63, 8)) := rfl
theorem fT_34_42 : fldT 34 42 = some ((68, 8)) := rfl
theorem fT_34_46 : fldT 34 46 = some ((69, 8)) := rfl
theorem fT_34_49 : fldT 34 49 = some ((70, 8)) := rfl
theorem fT_34_52 : fldT 34 52 = some ((71, 8)) := rfl
theorem fT_34_58 : fldT 34 58 = some ((72, 8)) := rfl
theorem fT_34_62 : fldT 34 62 = some ((73, 8)) := rfl
theorem fT_34_65 : fldT 34 65 = some ((56, 8)) := rfl
theorem fT_34_69 : fldT 34 69 = some ((57, 8)) := rfl
theorem fT_34_77 : fldT 34 77 = some ((64, 0)) := rfl
theorem fT_34_81 : fldT 34 81 = some ((65, 0)) := rfl
theorem fT_34_84 : fldT 34 84 = some ((66, 0)) := rfl
theorem fT_34_117 : fldT 34 117 = some ((7, 8)) := rfl
theorem fT_34_132 : fldT 34 132 = some ((23, 8)) := rfl
theorem fT_34_141 : fldT 34 141 = some ((74, 0)) := rfl
theorem fT_34_144 : fldT 34 144 = some ((75, 0)) := rfl
theorem fT_34_147 : fldT 34 147 = some ((76, 0)) := rfl
theorem fT_34_150 : fldT 34 150 = some ((77, 0)) := rfl
theorem fT_34_153 : fldT 34 153 = some ((80, 8)) := rfl
theorem fT_34_157 : fldT 34 157 = some ((12, 0)) := rfl
theorem fT_34_160 : fldT 34 160 = some ((8, 8)) := rfl
theorem fT_34_163 : fldT 34 163 = some ((9, 8)) := rfl
theorem fT_34_196 : fldT 34 196 = some ((10, 8)) := rfl
theorem fT_34_204 : fldT 34 204 = some ((79, 8)) := rfl
theorem fT_34_221 : fldT 34 221 = some ((136, 8)) := rfl
theorem fT_34_226 : fldT 34 226 = some ((91, 0)) := rfl
theorem fT_34_234 : fldT 34 234 = some ((30, 7)) := rfl
theorem fT_34_262 : fldT 34 262 = some ((135, 0)) := rfl
theorem fT_34_275 : fldT 34 275 = some ((137, 8)) := rfl
theorem fT_34_287 : fldT 34 287 = some ((24, 0)) := rfl
theorem fT_34_288 : fldT 34 288 = some ((90, 8)) := rfl
theorem fT_34_328 : fldT 34 328 = some ((25, 0)) := rfl
theorem fT_34_331 : fldT 34 331 = some ((27, 8)) := rfl
theorem fT_34_334 : fldT 34 334 = some ((78, 0)) := rfl
theorem fT_34_337 : fldT 34 337 = some ((26, 8)) := rfl
theorem fT_34_339 : fldT 34 339 = some ((29, 0)) := rfl
theorem fT_34_342 : fldT 34 342 = some ((28, 8)) := rfl
theorem fT_34_345 : fldT 34 345 = some ((67, 0)) := rfl
theorem fT_35_7 : fldT 35 7 = some ((87, 0)) := rfl
theorem fT_38_25 : fldT 38 25 = some ((92, 8)) := rfl
theorem fT_38_28 : fldT 38 28 = some ((90, 8)) := rfl
theorem fT_39_44 : fldT 39 44 = some ((93, 8)) := rfl
theorem fT_39_48 : fldT 39 48 = some ((90, 8)) := rfl
theorem fT_40_34 : fldT 40 34 = some ((94, 8)) := rfl
theorem fT_40_38 : fldT 40 38 = some ((95, 0)) := rfl
theorem fT_40_42 : fldT 40 42 = some ((90, 8)) := rfl
theorem fT_41_25 : fldT 41 25 = some ((96, 8)) := rfl
theorem fT_41_28 : fldT 41 28 = some ((90, 8)) := rfl
theorem fT_42_24 : fldT 42 24 = some ((97, 8)) := rfl
theorem fT_42_27 : fldT 42 27 = some ((98, 0)) := rfl
theorem fT_42_31 : fldT 42 31 = some ((90, 8)) := rfl
theorem fT_43_3 : fldT 43 3 = some ((138, 0)) := rfl
theorem fT_43_67 : fldT 43 67 = some ((139, 8)) := rfl
theorem fT_43_71 : fldT 43 71 = some ((142, 8)) := rfl
theorem fT_43_74 : fldT 43 74 = some ((143, 8)) := rfl
theorem fT_43_78 : fldT 43 78 = some ((144, 8)) := rfl
theorem fT_43_81 : fldT 43 81 = some ((149, 8)) := rfl
theorem fT_43_85 : fldT 43 85 = some ((150, 8)) := rfl
theorem fT_43_88 : fldT 43 88 = some ((151, 8)) := rfl
theorem fT_43_91 : fldT 43 91 = some ((154, 8)) := rfl
theorem fT_43_94 : fldT 43 94 = some ((155, 8)) := rfl
theorem fT_43_98 : fldT 43 98 = some ((156, 8)) := rfl
theorem fT_43_102 : fldT 43 102 = some ((157, 8)) := rfl
theorem fT_43_105 : fldT 43 105 = some ((158, 8)) := rfl
theorem fT_43_108 : fldT 43 108 = some ((159, 8)) := rfl
theorem fT_43_111 : fldT 43 111 = some ((160, 8)) := rfl
theorem fT_43_114 : fldT 43 114 = some ((162, 8)) := rfl
theorem fT_43_117 : fldT 43 117 = some ((163, 8)) := rfl
theorem fT_43_120 : fldT 43 120 = some ((164, 8)) := rfl
theorem fT_43_123 : fldT 43 123 = some ((165, 8)) := rfl
theorem fT_43_126 : fldT 43 126 = some ((166, 8)) := rfl
theorem fT_43_129 : fldT 43 129 = some ((171, 0)) := rfl
theorem fT_43_132 : fldT 43 132 = some ((172, 0)) := rfl
theorem fT_43_135 : fldT 43 135 = some ((176, 8)) := rfl
theorem fT_43_138 : fldT 43 138 = some ((179, 8)) := rfl
theorem fT_43_141 : fldT 43 141 = some ((180, 8)) := rfl
theorem fT_43_144 : fldT 43 144 = some ((181, 8)) := rfl
theorem fT_43_147 : fldT 43 147 = some ((182, 8)) := rfl
theorem fT_43_150 : fldT 43 150 = some ((183, 8)) := rfl
theorem fT_43_153 : fldT 43 153 = some ((184, 8)) := rfl
theorem fT_43_156 : fldT 43 156 = some ((185, 8)) := rfl
theorem fT_43_159 : fldT 43 159 = some ((186, 8)) := rfl
theorem fT_43_162 : fldT 43 162 = some ((189, 8)) := rfl
theorem fT_43_165 : fldT 43 165 = some ((191, 8)) := rfl
theorem fT_43_168 : fldT 43 168 = some ((192, 8)) := rfl
theorem fT_43_171 : fldT 43 171 = some ((197, 8)) := rfl
theorem fT_43_174 : fldT 43 174 = some ((198, 8)) := rfl
theorem fT_43_177 : fldT 43 177 = some ((200, 8)) := rfl
theorem fT_43_180 : fldT 43 180 = some ((201, 8)) := rfl
theorem fT_43_183 : fldT 43 183 = some ((202, 8)) := rfl
theorem fT_43_186 : fldT 43 186 = some ((208, 8)) := rfl
theorem fT_43_189 : fldT 43 189 = some ((209, 8)) := rfl
theorem fT_43_192 : fldT 43 192 = some ((210, 8)) := rfl
theorem fT_43_195 : fldT 43 195 = some ((217, 8)) := rfl
theorem fT_43_198 : fldT 43 198 = some ((226, 8)) := rfl
theorem fT_43_201 : fldT 43 201 = some ((229, 8)) := rfl
theorem fT_43_204 : fldT 43 204 = some ((230, 8)) := rfl
theorem fT_43_207 : fldT 43 207 = some ((231, 8)) := rfl
theorem fT_43_210 : fldT 43 210 = some ((232, 8)) := rfl
theorem fT_43_213 : fldT 43 213 = some ((233, 8)) := rfl
theorem fT_43_216 : fldT 43 216 = some ((234, 8)) := rfl
theorem fT_43_219 : fldT 43 219 = some ((235, 8)) := rfl
theorem fT_43_222 : fldT 43 222 = some ((236, 8)) := rfl
theorem fT_43_228 : fldT 43 228 = some ((140, 0)) := rfl
theorem fT_43_235 : fldT 43 235 = some ((141, 0)) := rfl
theorem fT_43_274 : fldT 43 274 = some ((145, 0)) := rfl
theorem fT_43_277 : fldT 43 277 = some ((148, 0)) := rfl
theorem fT_43_280 : fldT 43 280 = some ((146, 0)) := rfl
theorem fT_43_293 : fldT 43 293 = some ((147, 0)) := rfl
theorem fT_43_489 : fldT 43 489 = some ((152, 0)) := rfl
theorem fT_43_492 : fldT 43 492 = some ((153, 0)) := rfl
theorem fT_43_495 : fldT 43 495 = some ((161, 0)) := rfl
theorem fT_43_498 : fldT 43 498 = some ((167, 0)) := rfl
theorem fT_43_501 : fldT 43 501 = some ((193, 0)) := rfl
theorem fT_43_504 : fldT 43 504 = some ((194, 0)) := rfl
theorem fT_43_507 : fldT 43 507 = some ((196, 0)) := rfl
theorem fT_43_512 : fldT 43 512 = some ((168, 7)) := rfl
theorem fT_43_515 : fldT 43 515 = some ((220, 1)) := rfl
theorem fT_43_519 : fldT 43 519 = some ((218, 1)) := rfl
theorem fT_43_522 : fldT 43 522 = some ((223, 1)) := rfl
theorem fT_43_525 : fldT 43 525 = some ((170, 0)) := rfl
theorem fT_43_528 : fldT 43 528 = some ((169, 0)) := rfl
theorem fT_43_556 : fldT 43 556 = some ((174, 7)) := rfl
theorem fT_43_559 : fldT 43 559 = some ((175, 7)) := rfl
theorem fT_43_562 : fldT 43 562 = some ((177, 0)) := rfl
theorem fT_43_565 : fldT 43 565 = some ((173, 0)) := rfl
theorem fT_43_577 : fldT 43 577 = some ((178, 5)) := rfl
theorem fT_43_656 : fldT 43 656 = some ((187, 0)) := rfl
theorem fT_43_659 : fldT 43 659 = some ((188, 0)) := rfl
theorem fT_43_669 : fldT 43 669 = some ((195, 0)) := rfl
theorem fT_43_675 : fldT 43 675 = some ((199, 0)) := rfl
theorem fT_43_704 : fldT 43 704 = some ((190, 0)) := rfl
theorem fT_43_747 : fldT 43 747 = some ((206, 7)) := rfl
theorem fT_43_750 : fldT 43 750 = some ((207, 7)) := rfl
theorem fT_43_791 : fldT 43 791 = some ((203, 0)) := rfl
theorem fT_43_794 : fldT 43 794 = some ((205, 0)) := rfl
theorem fT_43_860 : fldT 43 860 = some ((204, 0)) := rfl
theorem fT_43_926 : fldT 43 926 = some ((211, 0)) := rfl
theorem fT_43_929 : fldT 43 929 = some ((212, 0)) := rfl
theorem fT_43_932 : fldT 43 932 = some ((213, 0)) := rfl
theorem fT_43_935 : fldT 43 935 = some ((214, 0)) := rfl
theorem fT_43_938 : fldT 43 938 = some ((215, 0)) := rfl
theorem fT_43_941 : fldT 43 941 = some ((216, 0)) := rfl
theorem fT_43_944 : fldT 43 944 = some ((219, 0)) := rfl
theorem fT_43_964 : fldT 43 964 = some ((225, 0)) := rfl
theorem fT_43_967 : fldT 43 967 = some ((227, 8)) := rfl
theorem fT_43_970 : fldT 43 970 = some ((228, 8)) := rfl
theorem fT_43_973 : fldT 43 973 = some ((221, 1)) := rfl
theorem fT_43_976 : fldT 43 976 = some ((222, 1)) := rfl
theorem fT_43_993 : fldT 43 993 = some ((224, 7)) := rfl
theorem fT_43_1007 : fldT 43 1007 = some ((237, 0)) := rfl
theorem fT_45_11 : fldT 45 11 = some ((103, 7)) := rfl
theorem fT_45_17 : fldT 45 17 = some ((104, 7)) := rfl
theorem fT_45_20 : fldT 45 20 = some ((105, 1)) := rfl
theorem fT_45_24 : fldT 45 24 = some ((106, 1)) := rfl
theorem fT_45_27 : fldT 45 27 = some ((31, 0)) := rfl
theorem fT_45_51 : fldT 45 51 = some ((107, 0)) := rfl
theorem fT_46_7 : fldT 46 7 = some ((108, 0)) := rfl
theorem fT_46_13 : fldT 46 13 = some ((110, 7)) := rfl
theorem fT_46_17 : fldT 46 17 = some ((111, 1)) := rfl
theorem fT_46_21 : fldT 46 21 = some ((109, 0)) := rfl
theorem fT_46_31 : fldT 46 31 = some ((107, 0)) := rfl
theorem fT_47_9 : fldT 47 9 = some ((112, 8)) := rfl
theorem fT_47_49 : fldT 47 49 = some ((107, 0)) := rfl
theorem fT_47_53 : fldT 47 53 = some ((105, 1)) := rfl
theorem fT_47_57 : fldT 47 57 = some ((106, 1)) := rfl
theorem fT_47_64 : fldT 47 64 = some ((103, 7)) := rfl
theorem fT_47_67 : fldT 47 67 = some ((104, 7)) := rfl
theorem fT_48_7 : fldT 48 7 = some ((113, 8)) := rfl
theorem fT_49_7 : fldT 49 7 = some ((113, 8)) := rfl
theorem fT_49_13 : fldT 49 13 = some ((104, 7)) := rfl
theorem fT_49_25 : fldT 49 25 = some ((103, 7)) := rfl
theorem fT_49_32 : fldT 49 32 = some ((104, 7)) := rfl
theorem fT_49_33 : fldT 49 33 = some ((103, 7)) := rfl
theorem fT_50_7 : fldT 50 7 = some ((113, 8)) := rfl
theorem fT_50_13 : fldT 50 13 = some ((103, 7)) := rfl
theorem fT_50_19 : fldT 50 19 = some ((104, 7)) := rfl
theorem fT_50_36 : fldT 50 36 = some ((103, 7)) := rfl
theorem fT_50_37 : fldT 50 37 = some ((104, 7)) := rfl
theorem fT_51_11 : fldT 51 11 = some ((103, 7)) := rfl
theorem fT_51_28 : fldT 51 28 = some ((104, 7)) := rfl
theorem fT_52_22 : fldT 52 22 = some ((113, 8)) := rfl
theorem fT_52_28 : fldT 52 28 = some ((104, 7)) := rfl
theorem fT_52_40 : fldT 52 40 = some ((103, 7)) := rfl
theorem fT_52_51 : fldT 52 51 = some ((103, 7)) := rfl
theorem fT_52_52 : fldT 52 52 = some ((104, 7)) := rfl
theorem fT_53_7 : fldT 53 7 = some ((114, 0)) := rfl
theorem fT_53_30 : fldT 53 30 = some ((113, 8)) := rfl
theorem fT_53_34 : fldT 53 34 = some ((103, 7)) := rfl
theorem fT_53_43 : fldT 53 43 = some ((104, 7)) := rfl
theorem fT_53_50 : fldT 53 50 = some ((103, 7)) := rfl
theorem fT_53_58 : fldT 53 58 = some ((104, 7)) := rfl
theorem fT_54_9 : fldT 54 9 = some ((115, 8)) := rfl
theorem fT_54_15 : fldT 54 15 = some ((116, 8)) := rfl
theorem fT_54_25 : fldT 54 25 = some ((31, 0)) := rfl
theorem fT_55_7 : fldT 55 7 = some ((115, 8)) := rfl
theorem fT_55_13 : fldT 55 13 = some ((103, 7)) := rfl
theorem fT_55_19 : fldT 55 19 = some ((116, 8)) := rfl
theorem fT_55_27 : fldT 55 27 = some ((104, 7)) := rfl
theorem fT_56_7 : fldT 56 7 = some ((115, 8)) := rfl
theorem fT_56_13 : fldT 56 13 = some ((103, 7)) := rfl
theorem fT_56_19 : fldT 56 19 = some ((116, 8)) := rfl
theorem fT_56_22 : fldT 56 22 = some ((104, 7)) := rfl
theorem fT_56_36 : fldT 56 36 = some ((103, 7)) := rfl
theorem fT_56_37 : fldT 56 37 = some ((104, 7)) := rfl
theorem fT_57_7 : fldT 57 7 = some ((103, 7)) := rfl
theorem fT_57_13 : fldT 57 13 = some ((104, 7)) := rfl
theorem fT_57_42 : fldT 57 42 = some ((117, 7)) := rfl
theorem fT_57_45 : fldT 57 45 = some ((118, 7)) := rfl
theorem fT_58_7 : fldT 58 7 = some ((115, 8)) := rfl
theorem fT_58_13 : fldT 58 13 = some ((103, 7)) := rfl
theorem fT_58_19 : fldT 58 19 = some ((104, 7)) := rfl
theorem fT_58_22 : fldT 58 22 = some ((116, 8)) := rfl
theorem fT_58_33 : fldT 58 33 = some ((103, 7)) := rfl
theorem fT_58_34 : fldT 58 34 = some ((104, 7)) := rfl
theorem fT_59_7 : fldT 59 7 = some ((115, 8)) := rfl
theorem fT_59_13 : fldT 59 13 = some ((103, 7)) := rfl
theorem fT_59_19 : fldT 59 19 = some ((104, 7)) := rfl
theorem fT_59_22 : fldT 59 22 = some ((116, 8)) := rfl
theorem fT_59_33 : fldT 59 33 = some ((103, 7)) := rfl
theorem fT_59_34 : fldT 59 34 = some ((104, 7)) := rfl
theorem fT_60_7 : fldT 60 7 = some ((119, 1)) := rfl
theorem fT_60_13 : fldT 60 13 = some ((115, 8)) := rfl
theorem fT_60_17 : fldT 60 17 = some ((103, 7)) := rfl
theorem fT_60_23 : fldT 60 23 = some ((116, 8)) := rfl
theorem fT_60_32 : fldT 60 32 = some ((104, 7)) := rfl
theorem fT_60_42 : fldT 60 42 = some ((103, 7)) := rfl
theorem fT_60_48 : fldT 60 48 = some ((104, 7)) := rfl
theorem fT_61_7 : fldT 61 7 = some ((105, 1)) := rfl
theorem fT_61_13 : fldT 61 13 = some ((106, 1)) := rfl
theorem fT_62_9 : fldT 62 9 = some ((120, 8)) := rfl
theorem fT_62_15 : fldT 62 15 = some ((121, 8)) := rfl
theorem fT_62_27 : fldT 62 27 = some ((105, 1)) := rfl
theorem fT_62_31 : fldT 62 31 = some ((106, 1)) := rfl
theorem fT_62_34 : fldT 62 34 = some ((31, 0)) := rfl
theorem fT_63_7 : fldT 63 7 = some ((122, 1)) := rfl
theorem fT_63_19 : fldT 63 19 = some ((103, 7)) := rfl
theorem fT_63_23 : fldT 63 23 = some ((104, 7)) := rfl
theorem fT_63_26 : fldT 63 26 = some ((105, 1)) := rfl
theorem fT_63_29 : fldT 63 29 = some ((106, 1)) := rfl
theorem fT_63_32 : fldT 63 32 = some ((107, 0)) := rfl
theorem fT_63_42 : fldT 63 42 = some ((120, 8)) := rfl
theorem fT_63_46 : fldT 63 46 = some ((121, 8)) := rfl
theorem fT_63_60 : fldT 63 60 = some ((106, 1)) := rfl
theorem fT_64_7 : fldT 64 7 = some ((123, 1)) := rfl
theorem fT_64_13 : fldT 64 13 = some ((120, 8)) := rfl
theorem fT_64_17 : fldT 64 17 = some ((104, 7)) := rfl
theorem fT_64_23 : fldT 64 23 = some ((121, 8)) := rfl
theorem fT_64_26 : fldT 64 26 = some ((103, 7)) := rfl
theorem fT_64_33 : fldT 64 33 = some ((106, 1)) := rfl
theorem fT_65_7 : fldT 65 7 = some ((124, 0)) := rfl
theorem fT_65_13 : fldT 65 13 = some ((120, 8)) := rfl
theorem fT_65_17 : fldT 65 17 = some ((105, 1)) := rfl
theorem fT_65_23 : fldT 65 23 = some ((121, 8)) := rfl
theorem fT_65_26 : fldT 65 26 = some ((106, 1)) := rfl
theorem fT_65_43 : fldT 65 43 = some ((106, 1)) := rfl
theorem fT_66_7 : fldT 66 7 = some ((125, 8)) := rfl
theorem fT_66_19 : fldT 66 19 = some ((106, 1)) := rfl
theorem fT_66_23 : fldT 66 23 = some ((105, 1)) := rfl
theorem fT_66_30 : fldT 66 30 = some ((106, 1)) := rfl
theorem fT_66_31 : fldT 66 31 = some ((105, 1)) := rfl
theorem fT_67_7 : fldT 67 7 = some ((126, 8)) := rfl
theorem fT_67_13 : fldT 67 13 = some ((127, 8)) := rfl
theorem fT_67_16 : fldT 67 16 = some ((128, 8)) := rfl
theorem fT_67_27 : fldT 67 27 = some ((105, 1)) := rfl
theorem fT_67_35 : fldT 67 35 = some ((106, 1)) := rfl
theorem fT_67_38 : fldT 67 38 = some ((103, 7)) := rfl
theorem fT_67_48 : fldT 67 48 = some ((104, 7)) := rfl
theorem fT_67_62 : fldT 67 62 = some ((107, 0)) := rfl
theorem fT_67_66 : fldT 67 66 = some ((107, 0)) := rfl
theorem fT_67_68 : fldT 67 68 = some ((105, 1)) := rfl
theorem fT_67_69 : fldT 67 69 = some ((106, 1)) := rfl
theorem fT_68_7 : fldT 68 7 = some ((129, 8)) := rfl
theorem fT_68_13 : fldT 68 13 = some ((130, 8)) := rfl
theorem fT_68_43 : fldT 68 43 = some ((103, 7)) := rfl
theorem fT_68_47 : fldT 68 47 = some ((104, 7)) := rfl
theorem fT_68_54 : fldT 68 54 = some ((107, 0)) := rfl
theorem fT_68_63 : fldT 68 63 = some ((106, 1)) := rfl
theorem fT_69_7 : fldT 69 7 = some ((135, 0)) := rfl
theorem fT_69_13 : fldT 69 13 = some ((136, 8)) := rfl
def fldP_0 : List (Nat × Nat × Nat) := [(7, (81, 8)), (17, (82, 8)), (24, (83, 8)), (31, (84, 8))]
def fldP_11 : List (Nat × Nat × Nat) := [(15, (131, 8)), (22, (132, 2)), (79, (134, 0))]
def fldP_31 : List (Nat × Nat × Nat) := [(32, (5, 0)), (36, (6, 0)), (42, (3, 0)), (49, (4, 0))]
def fldP_32 : List (Nat × Nat × Nat) := [(105, (13, 0)), (109, (14, 0)), (112, (18, 0)), (115, (19, 0)), (121, (16, 0)), (124, (15, 0)), (154, (17, 0)), (165, (22, 1)), (171, (21, 7)), (197, (12, 0)), (200, (20, 0))]
def fldP_33 : List (Nat × Nat × Nat) := [(61, (24, 0)), (65, (25, 0)), (68, (28, 8)), (74, (30, 7)), (81, (37, 0)), (84, (50, 1)), (88, (53, 1)), (91, (31, 0)), (94, (32, 0)), (97, (33, 0)), (100, (34, 0)), (103, (35, 0)), (106, (36, 0)), (115, (90, 8)), (164, (38, 5)), (215, (48, 0)), (218, (51, 1)), (221, (52, 1)), (224, (54, 1)), (244, (55, 7)), (270, (49, 0))]
def fldP_34 : List (Nat × Nat × Nat) := [(77, (64, 0)), (81, (65, 0)), (84, (66, 0)), (141, (74, 0)), (144, (75, 0)), (147, (76, 0)), (150, (77, 0)), (153, (80, 8)), (204, (79, 8)), (226, (91, 0)), (234, (30, 7)), (275, (137, 8)), (287, (24, 0)), (288, (90, 8)), (328, (25, 0)), (334, (78, 0)), (339, (29, 0)), (342, (28, 8)), (345, (67, 0))]
def fldP_35 : List (Nat × Nat × Nat) := [(7, (87, 0))]
def fldP_38 : List (Nat × Nat × Nat) := [(25, (92, 8)), (28, (90, 8))]
def fldP_39 : List (Nat × Nat × Nat) := [(44, (93, 8)), (48, (90, 8))]
def fldP_40 : List (Nat × Nat × Nat) := [(34, (94, 8)), (38, (95, 0)), (42, (90, 8))]
def fldP_41 : List (Nat × Nat × Nat) := [(25, (96, 8)), (28, (90, 8))]
def fldP_42 : List (Nat × Nat × Nat) := [(24, (97, 8)), (27, (98, 0)), (31, (90, 8))]
def fldP_43 : List (Nat × Nat × Nat) := [(3, (138, 0)), (129, (171, 0)), (132, (172, 0)), (162, (189, 8)), (198, (226, 8)), (228, (140, 0)), (235, (141, 0)), (274, (145, 0)), (277, (148, 0)), (280, (146, 0)), (293, (147, 0)), (489, (152, 0)), (492, (153, 0)), (495, (161, 0)), (498, (167, 0)), (501, (193, 0)), (504, (194, 0)), (507, (196, 0)), (512, (168, 7)), (515, (220, 1)), (519, (218, 1)), (522, (223, 1)), (525, (170, 0)), (528, (169, 0)), (556, (174, 7)), (559, (175, 7)), (562, (177, 0)), (565, (173, 0)), (577, (178, 5)), (656, (187, 0)), (659, (188, 0)), (669, (195, 0)), (675, (199, 0)), (704, (190, 0)), (747, (206, 7)), (750, (207, 7)), (791, (203, 0)), (794, (205, 0)), (860, (204, 0)), (926, (211, 0)), (929, (212, 0)), (932, (213, 0)), (935, (214, 0)), (938, (215, 0)), (941, (216, 0)), (944, (219, 0)), (964, (225, 0)), (967, (227, 8)), (970, (228, 8)), (973, (221, 1)), (976, (222, 1)), (993, (224, 7)), (1007, (237, 0))]
def fldP_45 : List (Nat × Nat × Nat) := [(11, (103, 7)), (17, (104, 7)), (20, (105, 1)), (24, (106, 1)), (27, (31, 0)), (51, (107, 0))]
def fldP_46 : List (Nat × Nat × Nat) := [(31, (107, 0))]
def fldP_47 : List (Nat × Nat × Nat) := [(49, (107, 0))]
def fldP_54 : List (Nat × Nat × Nat) := [(25, (31, 0))]
def fldP_57 : List (Nat × Nat × Nat) := [(42, (117, 7)), (45, (118, 7))]
def fldP_62 : List (Nat × Nat × Nat) := [(34, (31, 0))]
def fldP_67 : List (Nat × Nat × Nat) := [(66, (107, 0))]
def fldPL : List (Nat × List (Nat × Nat × Nat)) := [(0, fldP_0), (11, fldP_11), (31, fldP_31), (32, fldP_32), (33, fldP_33), (34, fldP_34), (35, fldP_35), (38, fldP_38), (39, fldP_39), (40, fldP_40), (41, fldP_41), (42, fldP_42), (43, fldP_43), (45, fldP_45), (46, fldP_46), (47, fldP_47), (54, fldP_54), (57, fldP_57), (62, fldP_62), (67, fldP_67)]
def fldP (o i : Nat) : Option (Nat × Nat) := tb fldPL o i
theorem fP_0_7 : fldP 0 7 = some ((81, 8)) := rfl
theorem fP_0_17 : fldP 0 17 = some ((82, 8)) := rfl
theorem fP_0_24 : fldP 0 24 = some ((83, 8)) := rfl
theorem fP_0_31 : fldP 0 31 = some ((84, 8)) := rfl
theorem fP_11_15 : fldP 11 15 = some ((131, 8)) := rfl
theorem fP_11_22 : fldP 11 22 = some ((132, 2)) := rfl
theorem fP_11_79 : fldP 11 79 = some ((134, 0)) := rfl
theorem fP_31_32 : fldP 31 32 = some ((5, 0)) := rfl
theorem fP_31_36 : fldP 31 36 = some ((6, 0)) := rfl
theorem fP_31_42 : fldP 31 42 = some ((3, 0)) := rfl
theorem fP_31_49 : fldP 31 49 = some ((4, 0)) := rfl
theorem fP_32_105 : fldP 32 105 = some ((13, 0)) := rfl
theorem fP_32_109 : fldP 32 109 = some ((14, 0)) := rfl
theorem fP_32_112 : fldP 32 112 = some ((18, 0)) := rfl
theorem fP_32_115 : fldP 32 115 = some ((19, 0)) := rfl
theorem fP_32_121 : fldP 32 121 = some ((16, 0)) := rfl
theorem fP_32_124 : fldP 32 124 = some ((15, 0)) := rfl
theorem fP_32_154 : fldP 32 154 = some ((17, 0)) := rfl
theorem fP_32_165 : fldP 32 165 = some ((22, 1)) := rfl
theorem fP_32_171 : fldP 32 171 = some ((21, 7)) := rfl
theorem fP_32_197 : fldP 32 197 = some ((12, 0)) := rfl
theorem fP_32_200 : fldP 32 200 = some ((20, 0)) := rfl
theorem fP_33_61 : fldP 33 61 = some ((24, 0)) := rfl
theorem fP_33_65 : fldP 33 65 = some ((25, 0)) := rfl
theorem fP_33_68 : fldP 33 68 = some ((28, 8)) := rfl
theorem fP_33_74 : fldP 33 74 = some ((30, 7)) := rfl
theorem fP_33_81 : fldP 33 81 = some ((37, 0)) := rfl
theorem fP_33_84 : fldP 33 84 = some ((50, 1)) := rfl
theorem fP_33_88 : fldP 33 88 = some ((53, 1)) := rfl
theorem fP_33_91 : fldP 33 91 = some ((31, 0)) := rfl
theorem fP_33_94 : fldP 33 94 = some ((32, 0)) := rfl
theorem fP_33_97 : fldP 33 97 = some ((33, 0)) := rfl
theorem fP_33_100 : fldP 33 100 = some ((34, 0)) := rfl
theorem fP_33_103 : fldP 33 103 = some ((35, 0)) := rfl
theorem fP_33_106 : fldP 33 106 = some ((36, 0)) := rfl
theorem fP_33_115 : fldP 33 115 = some ((90, 8)) := rfl
theorem fP_33_164 : fldP 33 164 = some ((38, 5)) := rfl
theorem fP_33_215 : fldP 33 215 = some ((48, 0)) := rfl
theorem fP_33_218 : fldP 33 218 = some ((51, 1)) := rfl
theorem fP_33_221 : fldP 33 221 = some ((52, 1)) := rfl
theorem fP_33_224 : fldP 33 224 = some ((54, 1)) := rfl
theorem fP_33_244 : fldP 33 244 = some ((55, 7)) := rfl
theorem fP_33_270 : fldP 33 270 = some ((49, 0)) := rfl
theorem fP_34_77 : fldP 34 77 = some ((64, 0)) := rfl
theorem fP_34_81 : fldP 34 81 = some ((65, 0)) := rfl
theorem fP_34_84 : fldP 34 84 = some ((66, 0)) := rfl
theorem fP_34_141 : fldP 34 141 = some ((74, 0)) := rfl
theorem fP_34_144 : fldP 34 144 = some ((75, 0)) := rfl
theorem fP_34_147 : fldP 34 147 = some ((76, 0)) := rfl
theorem fP_34_150 : fldP 34 150 = some ((77, 0)) := rfl
theorem fP_34_153 : fldP 34 153 = some ((80, 8)) := rfl
theorem fP_34_204 : fldP 34 204 = some ((79, 8)) := rfl
theorem fP_34_226 : fldP 34 226 = some ((91, 0)) := rfl
theorem fP_34_234 : fldP 34 234 = some ((30, 7)) := rfl
theorem fP_34_275 : fldP 34 275 = some ((137, 8)) := rfl
theorem fP_34_287 : fldP 34 287 = some ((24, 0)) := rfl
theorem fP_34_288 : fldP 34 288 = some ((90, 8)) := rfl
theorem fP_34_328 : fldP 34 328 = some ((25, 0)) := rfl
theorem fP_34_334 : fldP 34 334 = some ((78, 0)) := rfl
theorem fP_34_339 : fldP 34 339 = some ((29, 0)) := rfl
theorem fP_34_342 : fldP 34 342 = some ((28, 8)) := rfl
theorem fP_34_345 : fldP 34 345 = some ((67, 0)) := rfl
theorem fP_35_7 : fldP 35 7 = some ((87, 0)) := rfl
theorem fP_38_25 : fldP 38 25 = some ((92, 8)) := rfl
theorem fP_38_28 : fldP 38 28 = some ((90, 8)) := rfl
theorem fP_39_44 : fldP 39 44 = some ((93, 8)) := rfl
theorem fP_39_48 : fldP 39 48 = some ((90, 8)) := rfl
theorem fP_40_34 : fldP 40 34 = some ((94, 8)) := rfl
theorem fP_40_38 : fldP 40 38 = some ((95, 0)) := rfl
theorem fP_40_42 : fldP 40 42 = some ((90, 8)) := rfl
theorem fP_41_25 : fldP 41 25 = some ((96, 8)) := rfl
theorem fP_41_28 : fldP 41 28 = some ((90, 8)) := rfl
theorem fP_42_24 : fldP 42 24 = some ((97, 8)) := rfl
theorem fP_42_27 : fldP 42 27 = some ((98, 0)) := rfl
theorem fP_42_31 : fldP 42 31 = some ((90, 8)) := rfl
theorem fP_43_3 : fldP 43 3 = some ((138, 0)) := rfl
theorem fP_43_129 : fldP 43 129 = some ((171, 0)) := rfl
theorem fP_43_132 : fldP 43 132 = some ((172, 0)) := rfl
theorem fP_43_162 : fldP 43 162 = some ((189, 8)) := rfl
theorem fP_43_198 : fldP 43 198 = some ((226, 8)) := rfl
theorem fP_43_228 : fldP 43 228 = some ((140, 0)) := rfl
theorem fP_43_235 : fldP 43 235 = some ((141, 0)) := rfl
theorem fP_43_274 : fldP 43 274 = some ((145, 0)) := rfl
theorem fP_43_277 : fldP 43 277 = some ((148, 0)) := rfl
theorem fP_43_280 : fldP 43 280 = some ((146, 0)) := rfl
theorem fP_43_293 : fldP 43 293 = some ((147, 0)) := rfl
theorem fP_43_489 : fldP 43 489 = some ((152, 0)) := rfl
theorem fP_43_492 : fldP 43 492 = some ((153, 0)) := rfl
theorem fP_43_495 : fldP 43 495 = some ((161, 0)) := rfl
theorem fP_43_498 : fldP 43 498 = some ((167, 0)) := rfl
theorem fP_43_501 : fldP 43 501 = some ((193, 0)) := rfl
theorem fP_43_504 : fldP 43 504 = some ((194, 0)) := rfl
theorem fP_43_507 : fldP 43 507 = some ((196, 0)) := rfl
theorem fP_43_512 : fldP 43 512 = some ((168, 7)) := rfl
theorem fP_43_515 : fldP 43 515 = some ((220, 1)) := rfl
theorem fP_43_519 : fldP 43 519 = some ((218, 1)) := rfl
theorem fP_43_522 : fldP 43 522 = some ((223, 1)) := rfl
theorem fP_43_525 : fldP 43 525 = some ((170, 0)) := rfl
theorem fP_43_528 : fldP 43 528 = some ((169, 0)) := rfl
theorem fP_43_556 : fldP 43 556 = some ((174, 7)) := rfl
theorem fP_43_559 : fldP 43 559 = some ((175, 7)) := rfl
theorem fP_43_562 : fldP 43 562 = some ((177, 0)) := rfl
theorem fP_43_565 : fldP 43 565 = some ((173, 0)) := rfl
theorem fP_43_577 : fldP 43 577 = some ((178, 5)) := rfl
theorem fP_43_656 : fldP 43 656 = some ((187, 0)) := rfl
theorem fP_43_659 : fldP 43 659 = some ((188, 0)) := rfl
theorem fP_43_669 : fldP 43 669 = some ((195, 0)) := rfl
theorem fP_43_675 : fldP 43 675 = some ((199, 0)) := rfl
theorem fP_43_704 : fldP 43 704 = some ((190, 0)) := rfl
theorem fP_43_747 : fldP 43 747 = some ((206, 7)) := rfl
theorem fP_43_750 : fldP 43 750 = some ((207, 7)) := rfl
theorem fP_43_791 : fldP 43 791 = some ((203, 0)) := rfl
theorem fP_43_794 : fldP 43 794 = some ((205, 0)) := rfl
theorem fP_43_860 : fldP 43 860 = some ((204, 0)) := rfl
theorem fP_43_926 : fldP 43 926 = some ((211, 0)) := rfl
theorem fP_43_929 : fldP 43 929 = some ((212, 0)) := rfl
theorem fP_43_932 : fldP 43 932 = some ((213, 0)) := rfl
theorem fP_43_935 : fldP 43 935 = some ((214, 0)) := rfl
theorem fP_43_938 : fldP 43 938 = some ((215, 0)) := rfl
theorem fP_43_941 : fldP 43 941 = some ((216, 0)) := rfl
theorem fP_43_944 : fldP 43 944 = some ((219, 0)) := rfl
theorem fP_43_964 : fldP 43 964 = some ((225, 0)) := rfl
theorem fP_43_967 : fldP 43 967 = some ((227, 8)) := rfl
theorem fP_43_970 : fldP 43 970 = some ((228, 8)) := rfl
theorem fP_43_973 : fldP 43 973 = some ((221, 1)) := rfl
theorem fP_43_976 : fldP 43 976 = some ((222, 1)) := rfl
theorem fP_43_993 : fldP 43 993 = some ((224, 7)) := rfl
theorem fP_43_1007 : fldP 43 1007 = some ((237, 0)) := rfl
theorem fP_45_11 : fldP 45 11 = some ((103, 7)) := rfl
theorem fP_45_17 : fldP 45 17 = some ((104, 7)) := rfl
theorem fP_45_20 : fldP 45 20 = some ((105, 1)) := rfl
theorem fP_45_24 : fldP 45 24 = some ((106, 1)) := rfl
theorem fP_45_27 : fldP 45 27 = some ((31, 0)) := rfl
theorem fP_45_51 : fldP 45 51 = some ((107, 0)) := rfl
theorem fP_46_31 : fldP 46 31 = some ((107, 0)) := rfl
theorem fP_47_49 : fldP 47 49 = some ((107, 0)) := rfl
theorem fP_54_25 : fldP 54 25 = some ((31, 0)) := rfl
theorem fP_57_42 : fldP 57 42 = some ((117, 7)) := rfl
theorem fP_57_45 : fldP 57 45 = some ((118, 7)) := rfl
theorem fP_62_34 : fldP 62 34 = some ((31, 0)) := rfl
theorem fP_67_66 : fldP 67 66 = some ((107, 0)) := rfl
theorem fP_3_9 : fldP 3 9 = none := rfl
theorem fP_3_15 : fldP 3 15 = none := rfl
theorem fP_31_10 : fldP 31 10 = none := rfl
theorem fP_31_19 : fldP 31 19 = none := rfl
theorem fP_31_28 : fldP 31 28 = none := rfl
theorem fP_32_9 : fldP 32 9 = none := rfl
theorem fP_32_15 : fldP 32 15 = none := rfl
theorem fP_32_19 : fldP 32 19 = none := rfl
theorem fP_32_22 : fldP 32 22 = none := rfl
theorem fP_32_101 : fldP 32 101 = none := rfl
theorem fP_33_11 : fldP 33 11 = none := rfl
theorem fP_33_19 : fldP 33 19 = none := rfl
theorem fP_33_23 : fldP 33 23 = none := rfl
theorem fP_33_27 : fldP 33 27 = none := rfl
theorem fP_33_31 : fldP 33 31 = none := rfl
theorem fP_33_34 : fldP 33 34 = none := rfl
theorem fP_33_37 : fldP 33 37 = none := rfl
theorem fP_33_40 : fldP 33 40 = none := rfl
theorem fP_33_44 : fldP 33 44 = none := rfl
theorem fP_33_49 : fldP 33 49 = none := rfl
theorem fP_33_53 : fldP 33 53 = none := rfl
theorem fP_33_57 : fldP 33 57 = none := rfl
theorem fP_34_12 : fldP 34 12 = none := rfl
theorem fP_34_20 : fldP 34 20 = none := rfl
theorem fP_34_24 : fldP 34 24 = none := rfl
theorem fP_34_28 : fldP 34 28 = none := rfl
theorem fP_34_31 : fldP 34 31 = none := rfl
theorem fP_34_36 : fldP 34 36 = none := rfl
theorem fP_34_42 : fldP 34 42 = none := rfl
theorem fP_34_46 : fldP 34 46 = none := rfl
theorem fP_34_49 : fldP 34 49 = none := rfl
theorem fP_34_52 : fldP 34 52 = none := rfl
theorem fP_34_58 : fldP 34 58 = none := rfl
theorem fP_34_62 : fldP 34 62 = none := rfl
theorem fP_34_65 : fldP 34 65 = none := rfl
theorem fP_34_69 : fldP 34 69 = none := rfl
theorem fP_43_67 : fldP 43 67 = none := rfl
theorem fP_43_71 : fldP 43 71 = none := rfl
theorem fP_43_74 : fldP 43 74 = none := rfl
theorem fP_43_78 : fldP 43 78 = none := rfl
theorem fP_43_81 : fldP 43 81 = none := rfl
theorem fP_43_85 : fldP 43 85 = none := rfl
theorem fP_43_88 : fldP 43 88 = none := rfl
theorem fP_43_91 : fldP 43 91 = none := rfl
theorem fP_43_94 : fldP 43 94 = none := rfl
theorem fP_43_98 : fldP 43 98 = none := rfl
theorem fP_43_102 : fldP 43 102 = none := rfl
theorem fP_43_105 : fldP 43 105 = none := rfl
theorem fP_43_108 : fldP 43 108 = none := rfl
theorem fP_43_111 : fldP 43 111 = none := rfl
theorem fP_43_114 : fldP 43 114 = none := rfl
theorem fP_43_117 : fldP 43 117 = none := rfl
theorem fP_43_120 : fldP 43 120 = none := rfl
theorem fP_43_123 : fldP 43 123 = none := rfl
theorem fP_43_126 : fldP 43 126 = none := rfl
theorem fP_43_135 : fldP 43 135 = none := rfl
theorem fP_43_138 : fldP 43 138 = none := rfl
theorem fP_43_141 : fldP 43 141 = none := rfl
theorem fP_43_144 : fldP 43 144 = none := rfl
theorem fP_43_147 : fldP 43 147 = none := rfl
theorem fP_43_150 : fldP 43 150 = none := rfl
theorem fP_43_153 : fldP 43 153 = none := rfl
theorem fP_43_156 : fldP 43 156 = none := rfl
theorem fP_43_159 : fldP 43 159 = none := rfl
theorem fP_43_165 : fldP 43 165 = none := rfl
theorem fP_43_168 : fldP 43 168 = none := rfl
theorem fP_43_171 : fldP 43 171 = none := rfl
theorem fP_43_174 : fldP 43 174 = none := rfl
theorem fP_43_177 : fldP 43 177 = none := rfl
theorem fP_43_180 : fldP 43 180 = none := rfl
theorem fP_43_183 : fldP 43 183 = none := rfl
theorem fP_43_186 : fldP 43 186 = none := rfl
theorem fP_43_189 : fldP 43 189 = none := rfl
theorem fP_43_192 : fldP 43 192 = none := rfl
theorem fP_43_195 : fldP 43 195 = none := rfl
theorem fP_43_201 : fldP 43 201 = none := rfl
theorem fP_43_204 : fldP 43 204 = none := rfl
theorem fP_43_207 : fldP 43 207 = none := rfl
theorem fP_43_210 : fldP 43 210 = none := rfl
theorem fP_43_213 : fldP 43 213 = none := rfl
theorem fP_43_216 : fldP 43 216 = none := rfl
theorem fP_43_219 : fldP 43 219 = none := rfl
theorem fP_43_222 : fldP 43 222 = none := rfl
theorem fP_46_7 : fldP 46 7 = none := rfl
theorem fP_46_13 : fldP 46 13 = none := rfl
theorem fP_46_17 : fldP 46 17 = none := rfl
theorem fP_46_21 : fldP 46 21 = none := rfl
theorem fP_47_9 : fldP 47 9 = none := rfl
theorem fP_48_7 : fldP 48 7 = none := rfl
theorem fP_53_7 : fldP 53 7 = none := rfl
theorem fP_54_9 : fldP 54 9 = none := rfl
theorem fP_54_15 : fldP 54 15 = none := rfl
theorem fP_60_7 : fldP 60 7 = none := rfl
theorem fP_62_9 : fldP 62 9 = none := rfl
theorem fP_62_15 : fldP 62 15 = none := rfl
theorem fP_63_7 : fldP 63 7 = none := rfl
theorem fP_64_7 : fldP 64 7 = none := rfl
theorem fP_65_7 : fldP 65 7 = none := rfl
theorem fP_66_7 : fldP 66 7 = none := rfl
theorem fP_67_7 : fldP 67 7 = none := rfl
theorem fP_67_13 : fldP 67 13 = none := rfl
theorem fP_67_16 : fldP 67 16 = none := rfl
theorem fP_68_7 : fldP 68 7 = none := rfl
theorem fP_68_13 : fldP 68 13 = none := rfl
theorem fP_69_7 : fldP 69 7 = none := rfl
theorem fP_69_13 : fldP 69 13 = none := rfl
def fldQ_3 : List (Nat × Nat × Nat) := [(9, (99, 8)), (15, (100, 2))]
def fldQ_31 : List (Nat × Nat × Nat) := [(10, (0, 8)), (19, (1, 8)), (28, (2, 8))]
def fldQ_32 : List (Nat × Nat × Nat) := [(9, (7, 8)), (15, (8, 8)), (19, (9, 8)), (22, (10, 8)), (101, (11, 8))]
def fldQ_33 : List (Nat × Nat × Nat) := [(11, (23, 8)), (19, (26, 8)), (23, (27, 8)), (27, (39, 8)), (31, (40, 8)), (34, (41, 8)), (37, (42, 8)), (40, (43, 8)), (44, (44, 8)), (49, (45, 8)), (53, (46, 8)), (57, (47, 8))]
def fldQ_34 : List (Nat × Nat × Nat) := [(12, (58, 8)), (20, (59, 8)), (24, (60, 8)), (28, (61, 8)), (31, (62, 8)), (36, (63, 8)), (42, (68, 8)), (46, (69, 8)), (49, (70, 8)), (52, (71, 8)), (58, (72, 8)), (62, (73, 8)), (65, (56, 8)), (69, (57, 8))]
def fldQ_43 : List (Nat × Nat × Nat) := [(67, (139, 8)), (71, (142, 8)), (74, (143, 8)), (78, (144, 8)), (81, (149, 8)), (85, (150, 8)), (88, (151, 8)), (91, (154, 8)), (94, (155, 8)), (98, (156, 8)), (102, (157, 8)), (105, (158, 8)), (108, (159, 8)), (111, (160, 8)), (114, (162, 8)), (117, (163, 8)), (120, (164, 8)), (123, (165, 8)), (126, (166, 8)), (135, (176, 8)), (138, (179, 8)), (141, (180, 8)), (144, (181, 8)), (147, (182, 8)), (150, (183, 8)), (153, (184, 8)), (156, (185, 8)), (159, (186, 8)), (165, (191, 8)), (168, (192, 8)), (171, (197, 8)), (174, (198, 8)), (177, (200, 8)), (180, (201, 8)), (183, (202, 8)), (186, (208, 8)), (189, (209, 8)), (192, (210, 8)), (195, (217, 8)), (201, (229, 8)), (204, (230, 8)), (207, (231, 8)), (210, (232, 8)), (213, (233, 8)), (216, (234, 8)), (219, (235, 8)), (222, (236, 8))]
def fldQ_46 : List (Nat × Nat × Nat) := [(7, (108, 0)), (13, (110, 7)), (17, (111, 1)), (21, (109, 0))]
def fldQ_47 : List (Nat × Nat × Nat) := [(9, (112, 8))]
def fldQ_48 : List (Nat × Nat × Nat) := [(7, (113, 8))]
def fldQ_53 : List (Nat × Nat × Nat) := [(7, (114, 0))]
def fldQ_54 : List (Nat × Nat × Nat) := [(9, (115, 8)), (15, (116, 8))]
def fldQ_60 : List (Nat × Nat × Nat) := [(7, (119, 1))]
def fldQ_62 : List (Nat × Nat × Nat) := [(9, (120, 8)), (15, (121, 8))]
def fldQ_63 : List (Nat × Nat × Nat) := [(7, (122, 1))]
def fldQ_64 : List (Nat × Nat × Nat) := [(7, (123, 1))]
def fldQ_65 : List (Nat × Nat × Nat) := [(7, (124, 0))]
def fldQ_66 : List (Nat × Nat × Nat) := [(7, (125, 8))]
def fldQ_67 : List (Nat × Nat × Nat) := [(7, (126, 8)), (13, (127, 8)), (16, (128, 8))]
def fldQ_68 : List (Nat × Nat × Nat) := [(7, (129, 8)), (13, (130, 8))]
def fldQ_69 : List (Nat × Nat × Nat) := [(7, (135, 0)), (13, (136, 8))]
def fldQL : List (Nat × List (Nat × Nat × Nat)) := [(3, fldQ_3), (31, fldQ_31), (32, fldQ_32), (33, fldQ_33), (34, fldQ_34), (43, fldQ_43), (46, fldQ_46), (47, fldQ_47), (48, fldQ_48), (53, fldQ_53), (54, fldQ_54), (60, fldQ_60), (62, fldQ_62), (63, fldQ_63), (64, fldQ_64), (65, fldQ_65), (66, fldQ_66), (67, fldQ_67), (68, fldQ_68), (69, fldQ_69)]
def fldQ (o i : Nat) : Option (Nat × Nat) := tb fldQL o i
theorem fQ_3_9 : fldQ 3 9 = some ((99, 8)) := rfl
theorem fQ_3_15 : fldQ 3 15 = some ((100, 2)) := rfl
theorem fQ_31_10 : fldQ 31 10 = some ((0, 8)) := rfl
theorem fQ_31_19 : fldQ 31 19 = some ((1, 8)) := rfl
theorem fQ_31_28 : fldQ 31 28 = some ((2, 8)) := rfl
theorem fQ_32_9 : fldQ 32 9 = some ((7, 8)) := rfl
theorem fQ_32_15 : fldQ 32 15 = some ((8, 8)) := rfl
theorem fQ_32_19 : fldQ 32 19 = some ((9, 8)) := rfl
theorem fQ_32_22 : fldQ 32 22 = some ((10, 8)) := rfl
theorem fQ_32_101 : fldQ 32 101 = some ((11, 8)) := rfl
theorem fQ_33_11 : fldQ 33 11 = some ((23, 8)) := rfl
theorem fQ_33_19 : fldQ 33 19 = some ((26, 8)) := rfl
theorem fQ_33_23 : fldQ 33 23 = some ((27, 8)) := rfl
theorem fQ_33_27 : fldQ 33 27 = some ((39, 8)) := rfl
theorem fQ_33_31 : fldQ 33 31 = some ((40, 8)) := rfl
theorem fQ_33_34 : fldQ 33 34 = some ((41, 8)) := rfl
theorem fQ_33_37 : fldQ 33 37 = some ((42, 8)) := rfl
theorem fQ_33_40 : fldQ 33 40 = some ((43, 8)) := rfl
theorem fQ_33_44 : fldQ 33 44 = some ((44, 8)) := rfl
theorem fQ_33_49 : fldQ 33 49 = some ((45, 8)) := rfl
theorem fQ_33_53 : fldQ 33 53 = some ((46, 8)) := rfl
theorem fQ_33_57 : fldQ 33 57 = some ((47, 8)) := rfl
theorem fQ_34_12 : fldQ 34 12 = some ((58, 8)) := rfl
theorem fQ_34_20 : fldQ 34 20 = some ((59, 8)) := rfl
theorem fQ_34_24 : fldQ 34 24 = some ((60, 8)) := rfl
theorem fQ_34_28 : fldQ 34 28 = some ((61, 8)) := rfl
theorem fQ_34_31 : fldQ 34 31 = some ((62, 8)) := rfl
theorem fQ_34_36 : fldQ 34 36 = some ((63, 8)) := rfl
theorem fQ_34_42 : fldQ 34 42 = some ((68, 8)) := rfl
theorem fQ_34_46 : fldQ 34 46 = some ((69, 8)) := rfl
theorem fQ_34_49 : fldQ 34 49 = some ((70, 8)) := rfl
theorem fQ_34_52 : fldQ 34 52 = some ((71, 8)) := rfl
theorem fQ_34_58 : fldQ 34 58 = some ((72, 8)) := rfl
theorem fQ_34_62 : fldQ 34 62 = some ((73, 8)) := rfl
theorem fQ_34_65 : fldQ 34 65 = some ((56, 8)) := rfl
theorem fQ_34_69 : fldQ 34 69 = some ((57, 8)) := rfl
theorem fQ_43_67 : fldQ 43 67 = some ((139, 8)) := rfl
theorem fQ_43_71 : fldQ 43 71 = some ((142, 8)) := rfl
theorem fQ_43_74 : fldQ 43 74 = some ((143, 8)) := rfl
theorem fQ_43_78 : fldQ 43 78 = some ((144, 8)) := rfl
theorem fQ_43_81 : fldQ 43 81 = some ((149, 8)) := rfl
theorem fQ_43_85 : fldQ 43 85 = some ((150, 8)) := rfl
theorem fQ_43_88 : fldQ 43 88 = some ((151, 8)) := rfl
theorem fQ_43_91 : fldQ 43 91 = some ((154, 8)) := rfl
theorem fQ_43_94 : fldQ 43 94 = some ((155, 8)) := rfl
theorem fQ_43_98 : fldQ 43 98 = some ((156, 8)) := rfl
theorem fQ_43_102 : fldQ 43 102 = some ((157, 8)) := rfl
theorem fQ_43_105 : fldQ 43 105 = some ((158, 8)) := rfl
theorem fQ_43_108 : fldQ 43 108 = some ((159, 8)) := rfl
theorem fQ_43_111 : fldQ 43 111 = some ((160, 8)) := rfl
theorem fQ_43_114 : fldQ 43 114 = some ((162, 8)) := rfl
theorem fQ_43_117 : fldQ 43 117 = some ((163, 8)) := rfl
theorem fQ_43_120 : fldQ 43 120 = some ((164, 8)) := rfl
theorem fQ_43_123 : fldQ 43 123 = some ((165, 8)) := rfl
theorem fQ_43_126 : fldQ 43 126 = some ((166, 8)) := rfl
theorem fQ_43_135 : fldQ 43 135 = some ((176, 8)) := rfl
theorem fQ_43_138 : fldQ 43 138 = some ((179, 8)) := rfl
theorem fQ_43_141 : fldQ 43 141 = some ((180, 8)) := rfl
theorem fQ_43_144 : fldQ 43 144 = some ((181, 8)) := rfl
theorem fQ_43_147 : fldQ 43 147 = some ((182, 8)) := rfl
theorem fQ_43_150 : fldQ 43 150 = some ((183, 8)) := rfl
theorem fQ_43_153 : fldQ 43 153 = some ((184, 8)) := rfl
theorem fQ_43_156 : fldQ 43 156 = some ((185, 8)) := rfl
theorem fQ_43_159 : fldQ 43 159 = some ((186, 8)) := rfl
theorem fQ_43_165 : fldQ 43 165 = some ((191, 8)) := rfl
theorem fQ_43_168 : fldQ 43 168 = some ((192, 8)) := rfl
theorem fQ_43_171 : fldQ 43 171 = some ((197, 8)) := rfl
theorem fQ_43_174 : fldQ 43 174 = some ((198, 8)) := rfl
theorem fQ_43_177 : fldQ 43 177 = some ((200, 8)) := rfl
theorem fQ_43_180 : fldQ 43 180 = some ((201, 8)) := rfl
theorem fQ_43_183 : fldQ 43 183 = some ((202, 8)) := rfl
theorem fQ_43_186 : fldQ 43 186 = some ((208, 8)) := rfl
theorem fQ_43_189 : fldQ 43 189 = some ((209, 8)) := rfl
theorem fQ_43_192 : fldQ 43 192 = some ((210, 8)) := rfl
theorem fQ_43_195 : fldQ 43 195 = some ((217, 8)) := rfl
theorem fQ_43_201 : fldQ 43 201 = some ((229, 8)) := rfl
theorem fQ_43_204 : fldQ 43 204 = some ((230, 8)) := rfl
theorem fQ_43_207 : fldQ 43 207 = some ((231, 8)) := rfl
theorem fQ_43_210 : fldQ 43 210 = some ((232, 8)) := rfl
theorem fQ_43_213 : fldQ 43 213 = some ((233, 8)) := rfl
theorem fQ_43_216 : fldQ 43 216 = some ((234, 8)) := rfl
theorem fQ_43_219 : fldQ 43 219 = some ((235, 8)) := rfl
theorem fQ_43_222 : fldQ 43 222 = some ((236, 8)) := rfl
theorem fQ_46_7 : fldQ 46 7 = some ((108, 0)) := rfl
theorem fQ_46_13 : fldQ 46 13 = some ((110, 7)) := rfl
theorem fQ_46_17 : fldQ 46 17 = some ((111, 1)) := rfl
theorem fQ_46_21 : fldQ 46 21 = some ((109, 0)) := rfl
theorem fQ_47_9 : fldQ 47 9 = some ((112, 8)) := rfl
theorem fQ_48_7 : fldQ 48 7 = some ((113, 8)) := rfl
theorem fQ_53_7 : fldQ 53 7 = some ((114, 0)) := rfl
theorem fQ_54_9 : fldQ 54 9 = some ((115, 8)) := rfl
theorem fQ_54_15 : fldQ 54 15 = some ((116, 8)) := rfl
theorem fQ_60_7 : fldQ 60 7 = some ((119, 1)) := rfl
theorem fQ_62_9 : fldQ 62 9 = some ((120, 8)) := rfl
theorem fQ_62_15 : fldQ 62 15 = some ((121, 8)) := rfl
theorem fQ_63_7 : fldQ 63 7 = some ((122, 1)) := rfl
theorem fQ_64_7 : fldQ 64 7 = some ((123, 1)) := rfl
theorem fQ_65_7 : fldQ 65 7 = some ((124, 0)) := rfl
theorem fQ_66_7 : fldQ 66 7 = some ((125, 8)) := rfl
theorem fQ_67_7 : fldQ 67 7 = some ((126, 8)) := rfl
theorem fQ_67_13 : fldQ 67 13 = some ((127, 8)) := rfl
theorem fQ_67_16 : fldQ 67 16 = some ((128, 8)) := rfl
theorem fQ_68_7 : fldQ 68 7 = some ((129, 8)) := rfl
theorem fQ_68_13 : fldQ 68 13 = some ((130, 8)) := rfl
theorem fQ_69_7 : fldQ 69 7 = some ((135, 0)) := rfl
theorem fQ_69_13 : fldQ 69 13 = some ((136, 8)) := rfl
def stcT_0 : List (Nat × Value) := [(13, .ref 4), (20, .ref 5)]
def stcT_3 : List (Nat × Value) := [(38, .int 1), (1053, .ref 6)]
def stcT_6 : List (Nat × Value) := [(44, .int 1), (59, .int 0), (63, .int 8)]
def stcT_11 : List (Nat × Value) := [(18, .int 1)]
def stcT_15 : List (Nat × Value) := [(174, .long (-9223372036854775808))]
def stcT_19 : List (Nat × Value) := [(70, .int 1)]
def stcT_32 : List (Nat × Value) := [(177, .ref 3)]
def stcT_38 : List (Nat × Value) := [(34, .ref 2), (47, .ref 1)]
def stcT_39 : List (Nat × Value) := [(55, .ref 2), (59, .ref 1)]
def stcT_40 : List (Nat × Value) := [(62, .ref 2), (66, .ref 1)]
def stcT_41 : List (Nat × Value) := [(34, .ref 2), (38, .ref 1)]
def stcT_42 : List (Nat × Value) := [(37, .ref 2), (41, .ref 1)]
def stcT_45 : List (Nat × Value) := [(47, .ref 1)]
def stcT_51 : List (Nat × Value) := [(37, .ref 1)]
def stcT_52 : List (Nat × Value) := [(34, .ref 1)]
def stcTL : List (Nat × List (Nat × Value)) := [(0, stcT_0), (3, stcT_3), (6, stcT_6), (11, stcT_11), (15, stcT_15), (19, stcT_19), (32, stcT_32), (38, stcT_38), (39, stcT_39), (40, stcT_40), (41, stcT_41), (42, stcT_42), (45, stcT_45), (51, stcT_51), (52, stcT_52)]
def stcT (o i : Nat) : Option (Value) := tb stcTL o i
theorem sT_0_13 : stcT 0 13 = some (.ref 4) := rfl
theorem sT_0_20 : stcT 0 20 = some (.ref 5) := rfl
theorem sT_3_38 : stcT 3 38 = some (.int 1) := rfl
theorem sT_3_1053 : stcT 3 1053 = some (.ref 6) := rfl
theorem sT_6_44 : stcT 6 44 = some (.int 1) := rfl
theorem sT_6_59 : stcT 6 59 = some (.int 0) := rfl
theorem sT_6_63 : stcT 6 63 = some (.int 8) := rfl
theorem sT_11_18 : stcT 11 18 = some (.int 1) := rfl
theorem sT_15_174 : stcT 15 174 = some (.long (-9223372036854775808)) := rfl
theorem sT_19_70 : stcT 19 70 = some (.int 1) := rfl
theorem sT_32_177 : stcT 32 177 = some (.ref 3) := rfl
theorem sT_38_34 : stcT 38 34 = some (.ref 2) := rfl
theorem sT_38_47 : stcT 38 47 = some (.ref 1) := rfl
theorem sT_39_55 : stcT 39 55 = some (.ref 2) := rfl
theorem sT_39_59 : stcT 39 59 = some (.ref 1) := rfl
theorem sT_40_62 : stcT 40 62 = some (.ref 2) := rfl
theorem sT_40_66 : stcT 40 66 = some (.ref 1) := rfl
theorem sT_41_34 : stcT 41 34 = some (.ref 2) := rfl
theorem sT_41_38 : stcT 41 38 = some (.ref 1) := rfl
theorem sT_42_37 : stcT 42 37 = some (.ref 2) := rfl
theorem sT_42_41 : stcT 42 41 = some (.ref 1) := rfl
theorem sT_45_47 : stcT 45 47 = some (.ref 1) := rfl
theorem sT_51_37 : stcT 51 37 = some (.ref 1) := rfl
theorem sT_52_34 : stcT 52 34 = some (.ref 1) := rfl
def cstT_6 : List (Nat × Value) := [(20, .int (1073741823)), (227, .int (65536))]
def cstT_11 : List (Nat × Value) := [(39, .int (2147483647))]
def cstT_14 : List (Nat × Value) := [(200, .int (2147483639))]
def cstT_15 : List (Nat × Value) := [(87, .long (9218868437227405312)), (128, .long (-9223372036854775808)), (130, .long (-1)), (135, .long (9223372036854775807)), (322, .long (1023)), (324, .double (9223372036854775809)), (326, .float (2147483649)), (327, .double (9218868437227405312)), (329, .float (2139095040)), (330, .double (18442240474082181120)), (332, .float (4286578688))]
def cstT_18 : List (Nat × Value) := [(77, .int (2143289344))]
def cstT_19 : List (Nat × Value) := [(58, .double (9223372036854775808)), (64, .double (13830554455654793216)), (85, .long (4503599627370495)), (87, .long (-1)), (93, .double (4841369599423283200))]
def cstT_20 : List (Nat × Value) := [(137, .long (9221120237041090560))]
def cstT_22 : List (Nat × Value) := [(76, .int (56320)), (110, .int (55232))]
def cstT_23 : List (Nat × Value) := [(314, .long (6148914691236517205)), (316, .long (3689348814741910323)), (318, .long (1085102592571150095))]
def cstT_24 : List (Nat × Value) := [(12, .int (-2147483648)), (20, .int (2146435072)), (21, .int (1048576)), (22, .int (1048575)), (23, .int (2097152)), (32, .int (1071644672))]
def cstT_25 : List (Nat × Value) := [(22, .long (4294967295))]
def cstT_26 : List (Nat × Value) := [(127, .int (-2147483648)), (264, .int (65536)), (265, .int (1431655765)), (266, .int (858993459)), (267, .int (252645135))]
def cstT_32 : List (Nat × Value) := [(28, .ref 10), (30, .ref 12), (32, .ref 14), (34, .ref 16), (36, .ref 18), (38, .ref 20), (40, .ref 22), (42, .ref 24), (44, .ref 26), (46, .ref 28), (48, .ref 30), (50, .ref 32), (52, .ref 34), (54, .ref 36), (56, .ref 38), (58, .ref 40), (60, .ref 42), (62, .ref 44), (64, .ref 46), (66, .ref 48), (68, .ref 50), (70, .ref 52), (72, .ref 54), (74, .ref 56), (76, .ref 58), (77, .ref 60), (79, .ref 62), (81, .ref 64), (83, .ref 66), (85, .ref 68), (87, .ref 70), (89, .ref 72), (91, .ref 74), (93, .ref 76), (95, .ref 78), (97, .ref 80), (99, .ref 82), (169, .double (4621819117588971520)), (175, .ref 84), (272, .double (4746794007244308480))]
def cstT_33 : List (Nat × Value) := [(43, .int (1299200)), (48, .int (243600)), (72, .double (4562146422526312448)), (135, .double (18442240474082181120)), (137, .double (9218868437227405312)), (139, .double (4625196817309499392)), (152, .int (2000000000)), (230, .long (1000000)), (317, .double (4611686018427387904)), (322, .double (13830554455654793216))]
def cstT_39 : List (Nat × Value) := [(78, .long (4294967295))]
def cstT_40 : List (Nat × Value) := [(46, .double (13894598808949489664)), (48, .double (4671226772094713856))]
def cstT_43 : List (Nat × Value) := [(7, .double (9218868437227405312)), (46, .double (14069238036650688512)), (48, .double (4845865999795912704)), (53, .double (14064741636278059008)), (55, .double (4841369599423283200)), (57, .double (4602678819172646912)), (59, .long (2)), (257, .ref 88), (264, .ref 86), (303, .ref 104), (308, .ref 92), (313, .ref 98), (315, .ref 100), (317, .ref 102), (322, .ref 94), (331, .ref 96), (337, .double (4746794007244308480)), (339, .double (4621819117588971520)), (344, .ref 108), (346, .ref 112), (351, .ref 110), (353, .ref 114), (355, .ref 116), (363, .ref 76), (365, .ref 26), (367, .ref 18), (369, .ref 56), (371, .ref 64), (373, .ref 82), (375, .ref 78), (377, .ref 38), (382, .ref 14), (384, .ref 50), (386, .ref 128), (391, .ref 48), (396, .ref 90), (398, .ref 118), (400, .ref 120), (402, .ref 122), (404, .ref 124), (406, .ref 126), (414, .ref 34), (425, .ref 10), (427, .ref 66), (429, .ref 68), (431, .ref 30), (432, .ref 44), (434, .ref 62), (439, .ref 42), (441, .ref 40), (443, .ref 32), (445, .ref 70), (447, .ref 74), (449, .ref 24), (451, .ref 22), (453, .ref 36), (455, .ref 52), (460, .ref 106), (465, .ref 58), (467, .ref 16), (469, .ref 28), (471, .ref 54), (476, .ref 46), (478, .ref 20), (480, .ref 72), (481, .ref 80), (483, .ref 60), (485, .ref 12), (487, .ref 130), (510, .double (4562146422526312448)), (531, .long (37)), (581, .long (3)), (583, .double (13894598808949489664)), (585, .double (4671226772094713856)), (590, .double (4634204016564240384)), (602, .long (-1)), (753, .double (18442240474082181120)), (789, .double (13830554455654793216)), (863, .int (2000000000)), (953, .double (4625196817309499392)), (985, .double (4611686018427387904)), (1010, .int (1000000)), (1024, .long (4294967295))]
def cstT_44 : List (Nat × Value) := [(26, .double (9218868437227405312))]
def cstT_45 : List (Nat × Value) := [(33, .int (2000000000))]
def cstT_50 : List (Nat × Value) := [(49, .double (9218868437227405312)), (51, .double (18442240474082181120))]
def cstT_52 : List (Nat × Value) := [(56, .double (9218868437227405312))]
def cstT_53 : List (Nat × Value) := [(51, .double (13830554455654793216)), (53, .double (9218868437227405312)), (59, .double (18442240474082181120)), (71, .double (4602678819172646912))]
def cstT_54 : List (Nat × Value) := [(31, .int (2000000000))]
def cstT_57 : List (Nat × Value) := [(32, .double (18442240474082181120)), (34, .double (9218868437227405312))]
def cstT_60 : List (Nat × Value) := [(43, .double (9218868437227405312)), (49, .double (18442240474082181120))]
def cstT_62 : List (Nat × Value) := [(40, .int (2000000000))]
def cstT_64 : List (Nat × Value) := [(36, .double (18442240474082181120)), (42, .double (9218868437227405312))]
def cstT_68 : List (Nat × Value) := [(76, .double (9218868437227405312)), (78, .double (18442240474082181120))]
def cstTL : List (Nat × List (Nat × Value)) := [(6, cstT_6), (11, cstT_11), (14, cstT_14), (15, cstT_15), (18, cstT_18), (19, cstT_19), (20, cstT_20), (22, cstT_22), (23, cstT_23), (24, cstT_24), (25, cstT_25), (26, cstT_26), (32, cstT_32), (33, cstT_33), (39, cstT_39), (40, cstT_40), (43, cstT_43), (44, cstT_44), (45, cstT_45), (50, cstT_50), (52, cstT_52), (53, cstT_53), (54, cstT_54), (57, cstT_57), (60, cstT_60), (62, cstT_62), (64, cstT_64), (68, cstT_68)]
def cstT (o i : Nat) : Option (Value) := tb cstTL o i
theorem cT_6_20 : cstT 6 20 = some (.int (1073741823)) := rfl
theorem cT_6_227 : cstT 6 227 = some (.int (65536)) := rfl
theorem cT_11_39 : cstT 11 39 = some (.int (2147483647)) := rfl
theorem cT_14_200 : cstT 14 200 = some (.int (2147483639)) := rfl
theorem cT_15_87 : cstT 15 87 = some (.long (9218868437227405312)) := rfl
theorem cT_15_128 : cstT 15 128 = some (.long (-9223372036854775808)) := rfl
theorem cT_15_130 : cstT 15 130 = some (.long (-1)) := rfl
theorem cT_15_135 : cstT 15 135 = some (.long (9223372036854775807)) := rfl
theorem cT_15_322 : cstT 15 322 = some (.long (1023)) := rfl
theorem cT_15_324 : cstT 15 324 = some (.double (9223372036854775809)) := rfl
theorem cT_15_326 : cstT 15 326 = some (.float (2147483649)) := rfl
theorem cT_15_327 : cstT 15 327 = some (.double (9218868437227405312)) := rfl
theorem cT_15_329 : cstT 15 329 = some (.float (2139095040)) := rfl
theorem cT_15_330 : cstT 15 330 = some (.double (18442240474082181120)) := rfl
theorem cT_15_332 : cstT 15 332 = some (.float (4286578688)) := rfl
theorem cT_18_77 : cstT 18 77 = some (.int (2143289344)) := rfl
theorem cT_19_58 : cstT 19 58 = some (.double (9223372036854775808)) := rfl
theorem cT_19_64 : cstT 19 64 = some (.double (13830554455654793216)) := rfl
theorem cT_19_85 : cstT 19 85 = some (.long (4503599627370495)) := rfl
theorem cT_19_87 : cstT 19 87 = some (.long (-1)) := rfl
theorem cT_19_93 : cstT 19 93 = some (.double (4841369599423283200)) := rfl
theorem cT_20_137 : cstT 20 137 = some (.long (9221120237041090560)) := rfl
theorem cT_22_76 : cstT 22 76 = some (.int (56320)) := rfl
theorem cT_22_110 : cstT 22 110 = some (.int (55232)) := rfl
theorem cT_23_314 : cstT 23 314 = some (.long (6148914691236517205)) := rfl
theorem cT_23_316 : cstT 23 316 = some (.long (3689348814741910323)) := rfl
theorem cT_23_318 : cstT 23 318 = some (.long (1085102592571150095)) := rfl
theorem cT_24_12 : cstT 24 12 = some (.int (-2147483648)) := rfl
theorem cT_24_20 : cstT 24 20 = some (.int (2146435072)) := rfl
theorem cT_24_21 : cstT 24 21 = some (.int (1048576)) := rfl
theorem cT_24_22 : cstT 24 22 = some (.int (1048575)) := rfl
theorem cT_24_23 : cstT 24 23 = some (.int (2097152)) := rfl
theorem cT_24_32 : cstT 24 32 = some (.int (1071644672)) := rfl
theorem cT_25_22 : cstT 25 22 = some (.long (4294967295)) := rfl
theorem cT_26_127 : cstT 26 127 = some (.int (-2147483648)) := rfl
theorem cT_26_264 : cstT 26 264 = some (.int (65536)) := rfl
theorem cT_26_265 : cstT 26 265 = some (.int (1431655765)) := rfl
theorem cT_26_266 : cstT 26 266 = some (.int (858993459)) := rfl
theorem cT_26_267 : cstT 26 267 = some (.int (252645135)) := rfl
theorem cT_32_28 : cstT 32 28 = some (.ref 10) := rfl
theorem cT_32_30 : cstT 32 30 = some (.ref 12) := rfl
theorem cT_32_32 : cstT 32 32 = some (.ref 14) := rfl
theorem cT_32_34 : cstT 32 34 = some (.ref 16) := rfl
theorem cT_32_36 : cstT 32 36 = some (.ref 18) := rfl
theorem cT_32_38 : cstT 32 38 = some (.ref 20) := rfl
theorem cT_32_40 : cstT 32 40 = some (.ref 22) := rfl
theorem cT_32_42 : cstT 32 42 = some (.ref 24) := rfl
theorem cT_32_44 : cstT 32 44 = some (.ref 26) := rfl
theorem cT_32_46 : cstT 32 46 = some (.ref 28) := rfl
theorem cT_32_48 : cstT 32 48 = some (.ref 30) := rfl
theorem cT_32_50 : cstT 32 50 = some (.ref 32) := rfl
theorem cT_32_52 : cstT 32 52 = some (.ref 34) := rfl
theorem cT_32_54 : cstT 32 54 = some (.ref 36) := rfl
theorem cT_32_56 : cstT 32 56 = some (.ref 38) := rfl
theorem cT_32_58 : cstT 32 58 = some (.ref 40) := rfl
theorem cT_32_60 : cstT 32 60 = some (.ref 42) := rfl
theorem cT_32_62 : cstT 32 62 = some (.ref 44) := rfl
theorem cT_32_64 : cstT 32 64 = some (.ref 46) := rfl
theorem cT_32_66 : cstT 32 66 = some (.ref 48) := rfl
theorem cT_32_68 : cstT 32 68 = some (.ref 50) := rfl
theorem cT_32_70 : cstT 32 70 = some (.ref 52) := rfl
theorem cT_32_72 : cstT 32 72 = some (.ref 54) := rfl
theorem cT_32_74 : cstT 32 74 = some (.ref 56) := rfl
theorem cT_32_76 : cstT 32 76 = some (.ref 58) := rfl
theorem cT_32_77 : cstT 32 77 = some (.ref 60) := rfl
theorem cT_32_79 : cstT 32 79 = some (.ref 62) := rfl
theorem cT_32_81 : cstT 32 81 = some (.ref 64) := rfl
theorem cT_32_83 : cstT 32 83 = some (.ref 66) := rfl
theorem cT_32_85 : cstT 32 85 = some (.ref 68) := rfl
theorem cT_32_87 : cstT 32 87 = some (.ref 70) := rfl
theorem cT_32_89 : cstT 32 89 = some (.ref 72) := rfl
theorem cT_32_91 : cstT 32 91 = some (.ref 74) := rfl
theorem cT_32_93 : cstT 32 93 = some (.ref 76) := rfl
theorem cT_32_95 : cstT 32 95 = some (.ref 78) := rfl
theorem cT_32_97 : cstT 32 97 = some (.ref 80) := rfl
theorem cT_32_99 : cstT 32 99 = some (.ref 82) := rfl
theorem cT_32_169 : cstT 32 169 = some (.double (4621819117588971520)) := rfl
theorem cT_32_175 : cstT 32 175 = some (.ref 84) := rfl
theorem cT_32_272 : cstT 32 272 = some (.double (4746794007244308480)) := rfl
theorem cT_33_43 : cstT 33 43 = some (.int (1299200)) := rfl
theorem cT_33_48 : cstT 33 48 = some (.int (243600)) := rfl
theorem cT_33_72 : cstT 33 72 = some (.double (4562146422526312448)) := rfl
theorem cT_33_135 : cstT 33 135 = some (.double (18442240474082181120)) := rfl
theorem cT_33_137 : cstT 33 137 = some (.double (9218868437227405312)) := rfl
theorem cT_33_139 : cstT 33 139 = some (.double (4625196817309499392)) := rfl
theorem cT_33_152 : cstT 33 152 = some (.int (2000000000)) := rfl
theorem cT_33_230 : cstT 33 230 = some (.long (1000000)) := rfl
theorem cT_33_317 : cstT 33 317 = some (.double (4611686018427387904)) := rfl
theorem cT_33_322 : cstT 33 322 = some (.double (13830554455654793216)) := rfl
theorem cT_39_78 : cstT 39 78 = some (.long (4294967295)) := rfl
theorem cT_40_46 : cstT 40 46 = some (.double (13894598808949489664)) := rfl
theorem cT_40_48 : cstT 40 48 = some (.double (4671226772094713856)) := rfl
theorem cT_43_7 : cstT 43 7 = some (.double (9218868437227405312)) := rfl
theorem cT_43_46 : cstT 43 46 = some (.double (14069238036650688512)) := rfl
theorem cT_43_48 : cstT 43 48 = some (.double (4845865999795912704)) := rfl
theorem cT_43_53 : cstT 43 53 = some (.double (14064741636278059008)) := rfl
theorem cT_43_55 : cstT 43 55 = some (.double (4841369599423283200)) := rfl
theorem cT_43_57 : cstT 43 57 = some (.double (4602678819172646912)) := rfl
theorem cT_43_59 : cstT 43 59 = some (.long (2)) := rfl
theorem cT_43_257 : cstT 43 257 = some (.ref 88) := rfl
theorem cT_43_264 : cstT 43 264 = some (.ref 86) := rfl
theorem cT_43_303 : cstT 43 303 = some (.ref 104) := rfl
theorem cT_43_308 : cstT 43 308 = some (.ref 92) := rfl
theorem cT_43_313 : cstT 43 313 = some (.ref 98) := rfl
theorem cT_43_315 : cstT 43 315 = some (.ref 100) := rfl
theorem cT_43_317 : cstT 43 317 = some (.ref 102) := rfl
theorem cT_43_322 : cstT 43 322 = some (.ref 94) := rfl
theorem cT_43_331 : cstT 43 331 = some (.ref 96) := rfl
theorem cT_43_337 : cstT 43 337 = some (.double (4746794007244308480)) := rfl
theorem cT_43_339 : cstT 43 339 = some (.double (4621819117588971520)) := rfl
theorem cT_43_344 : cstT 43 344 = some (.ref 108) := rfl
theorem cT_43_346 : cstT 43 346 = some (.ref 112) := rfl
theorem cT_43_351 : cstT 43 351 = some (.ref 110) := rfl
theorem cT_43_353 : cstT 43 353 = some (.ref 114) := rfl
theorem cT_43_355 : cstT 43 355 = some (.ref 116) := rfl
theorem cT_43_363 : cstT 43 363 = some (.ref 76) := rfl
theorem cT_43_365 : cstT 43 365 = some (.ref 26) := rfl
theorem cT_43_367 : cstT 43 367 = some (.ref 18) := rfl
theorem cT_43_369 : cstT 43 369 = some (.ref 56) := rfl
theorem cT_43_371 : cstT 43 371 = some (.ref 64) := rfl
theorem cT_43_373 : cstT 43 373 = some (.ref 82) := rfl
theorem cT_43_375 : cstT 43 375 = some (.ref 78) := rfl
theorem cT_43_377 : cstT 43 377 = some (.ref 38) := rfl
theorem cT_43_382 : cstT 43 382 = some (.ref 14) := rfl
theorem cT_43_384 : cstT 43 384 = some (.ref 50) := rfl
theorem cT_43_386 : cstT 43 386 = some (.ref 128) := rfl
theorem cT_43_391 : cstT 43 391 = some (.ref 48) := rfl
theorem cT_43_396 : cstT 43 396 = some (.ref 90) := rfl
theorem cT_43_398 : cstT 43 398 = some (.ref 118) := rfl
theorem cT_43_400 : cstT 43 400 = some (.ref 120) := rfl
theorem cT_43_402 : cstT 43 402 = some (.ref 122) := rfl
theorem cT_43_404 : cstT 43 404 = some (.ref 124) := rfl
theorem cT_43_406 : cstT 43 406 = some (.ref 126) := rfl
theorem cT_43_414 : cstT 43 414 = some (.ref 34) := rfl
theorem cT_43_425 : cstT 43 425 = some (.ref 10) := rfl
theorem cT_43_427 : cstT 43 427 = some (.ref 66) := rfl
theorem cT_43_429 : cstT 43 429 = some (.ref 68) := rfl
theorem cT_43_431 : cstT 43 431 = some (.ref 30) := rfl
theorem cT_43_432 : cstT 43 432 = some (.ref 44) := rfl
theorem cT_43_434 : cstT 43 434 = some (.ref 62) := rfl
theorem cT_43_439 : cstT 43 439 = some (.ref 42) := rfl
theorem cT_43_441 : cstT 43 441 = some (.ref 40) := rfl
theorem cT_43_443 : cstT 43 443 = some (.ref 32) := rfl
theorem cT_43_445 : cstT 43 445 = some (.ref 70) := rfl
theorem cT_43_447 : cstT 43 447 = some (.ref 74) := rfl
theorem cT_43_449 : cstT 43 449 = some (.ref 24) := rfl
theorem cT_43_451 : cstT 43 451 = some (.ref 22) := rfl
theorem cT_43_453 : cstT 43 453 = some (.ref 36) := rfl
theorem cT_43_455 : cstT 43 455 = some (.ref 52) := rfl
theorem cT_43_460 : cstT 43 460 = some (.ref 106) := rfl
theorem cT_43_465 : cstT 43 465 = some (.ref 58) := rfl
theorem cT_43_467 : cstT 43 467 = some (.ref 16) := rfl
theorem cT_43_469 : cstT 43 469 = some (.ref 28) := rfl
theorem cT_43_471 : cstT 43 471 = some (.ref 54) := rfl
theorem cT_43_476 : cstT 43 476 = some (.ref 46) := rfl
theorem cT_43_478 : cstT 43 478 = some (.ref 20) := rfl
theorem cT_43_480 : cstT 43 480 = some (.ref 72) := rfl
theorem cT_43_481 : cstT 43 481 = some (.ref 80) := rfl
theorem cT_43_483 : cstT 43 483 = some (.ref 60) := rfl
theorem cT_43_485 : cstT 43 485 = some (.ref 12) := rfl
theorem cT_43_487 : cstT 43 487 = some (.ref 130) := rfl
theorem cT_43_510 : cstT 43 510 = some (.double (4562146422526312448)) := rfl
theorem cT_43_531 : cstT 43 531 = some (.long (37)) := rfl
theorem cT_43_581 : cstT 43 581 = some (.long (3)) := rfl
theorem cT_43_583 : cstT 43 583 = some (.double (13894598808949489664)) := rfl
theorem cT_43_585 : cstT 43 585 = some (.double (4671226772094713856)) := rfl
theorem cT_43_590 : cstT 43 590 = some (.double (4634204016564240384)) := rfl
theorem cT_43_602 : cstT 43 602 = some (.long (-1)) := rfl
theorem cT_43_753 : cstT 43 753 = some (.double (18442240474082181120)) := rfl
theorem cT_43_789 : cstT 43 789 = some (.double (13830554455654793216)) := rfl
theorem cT_43_863 : cstT 43 863 = some (.int (2000000000)) := rfl
theorem cT_43_953 : cstT 43 953 = some (.double (4625196817309499392)) := rfl
theorem cT_43_985 : cstT 43 985 = some (.double (4611686018427387904)) := rfl
theorem cT_43_1010 : cstT 43 1010 = some (.int (1000000)) := rfl
theorem cT_43_1024 : cstT 43 1024 = some (.long (4294967295)) := rfl
theorem cT_44_26 : cstT 44 26 = some (.double (9218868437227405312)) := rfl
theorem cT_45_33 : cstT 45 33 = some (.int (2000000000)) := rfl
theorem cT_50_49 : cstT 50 49 = some (.double (9218868437227405312)) := rfl
theorem cT_50_51 : cstT 50 51 = some (.double (18442240474082181120)) := rfl
theorem cT_52_56 : cstT 52 56 = some (.double (9218868437227405312)) := rfl
theorem cT_53_51 : cstT 53 51 = some (.double (13830554455654793216)) := rfl
theorem cT_53_53 : cstT 53 53 = some (.double (9218868437227405312)) := rfl
theorem cT_53_59 : cstT 53 59 = some (.double (18442240474082181120)) := rfl
theorem cT_53_71 : cstT 53 71 = some (.double (4602678819172646912)) := rfl
theorem cT_54_31 : cstT 54 31 = some (.int (2000000000)) := rfl
theorem cT_57_32 : cstT 57 32 = some (.double (18442240474082181120)) := rfl
theorem cT_57_34 : cstT 57 34 = some (.double (9218868437227405312)) := rfl
theorem cT_60_43 : cstT 60 43 = some (.double (9218868437227405312)) := rfl
theorem cT_60_49 : cstT 60 49 = some (.double (18442240474082181120)) := rfl
theorem cT_62_40 : cstT 62 40 = some (.int (2000000000)) := rfl
theorem cT_64_36 : cstT 64 36 = some (.double (18442240474082181120)) := rfl
theorem cT_64_42 : cstT 64 42 = some (.double (9218868437227405312)) := rfl
theorem cT_68_76 : cstT 68 76 = some (.double (9218868437227405312)) := rfl
theorem cT_68_78 : cstT 68 78 = some (.double (18442240474082181120)) := rfl
def anwT_32 : List (Nat × Nat) := [(26, 210)]
def anwT_33 : List (Nat × Nat) := [(9, 211), (17, 212)]
def anwT_34 : List (Nat × Nat) := [(18, 210), (34, 213), (40, 211), (56, 212), (87, 214), (90, 215), (93, 216), (96, 217), (99, 218)]
def anwTL : List (Nat × List (Nat × Nat)) := [(32, anwT_32), (33, anwT_33), (34, anwT_34)]
def anwT (o i : Nat) : Option (Nat) := tb anwTL o i
theorem aT_32_26 : anwT 32 26 = some (210) := rfl
theorem aT_33_9 : anwT 33 9 = some (211) := rfl
theorem aT_33_17 : anwT 33 17 = some (212) := rfl
theorem aT_34_18 : anwT 34 18 = some (210) := rfl
theorem aT_34_34 : anwT 34 34 = some (213) := rfl
theorem aT_34_40 : anwT 34 40 = some (211) := rfl
theorem aT_34_56 : anwT 34 56 = some (212) := rfl
theorem aT_34_87 : anwT 34 87 = some (214) := rfl
theorem aT_34_90 : anwT 34 90 = some (215) := rfl
theorem aT_34_93 : anwT 34 93 = some (216) := rfl
theorem aT_34_96 : anwT 34 96 = some (217) := rfl
theorem aT_34_99 : anwT 34 99 = some (218) := rfl
def excN_31 : List (Nat × Nat × Nat) := [(127, (40, 129)), (180, (39, 182)), (188, (38, 190))]
def excN_33 : List (Nat × Nat × Nat) := [(327, (38, 329)), (330, (40, 332))]
def excN_36 : List (Nat × Nat × Nat) := [(7, (38, 9))]
def excN_38 : List (Nat × Nat × Nat) := [(61, (39, 63))]
def excN_39 : List (Nat × Nat × Nat) := [(69, (39, 71))]
def excN_40 : List (Nat × Nat × Nat) := [(80, (39, 82))]
def excN_41 : List (Nat × Nat × Nat) := [(50, (39, 52))]
def excN_42 : List (Nat × Nat × Nat) := [(51, (39, 53))]
def excNL : List (Nat × List (Nat × Nat × Nat)) := [(31, excN_31), (33, excN_33), (36, excN_36), (38, excN_38), (39, excN_39), (40, excN_40), (41, excN_41), (42, excN_42)]
def excN (o i : Nat) : Option (Nat × Nat) := tb excNL o i
theorem xT_31_127 : excN 31 127 = some ((40, 129)) := rfl
theorem xT_31_180 : excN 31 180 = some ((39, 182)) := rfl
theorem xT_31_188 : excN 31 188 = some ((38, 190)) := rfl
theorem xT_33_327 : excN 33 327 = some ((38, 329)) := rfl
theorem xT_33_330 : excN 33 330 = some ((40, 332)) := rfl
theorem xT_36_7 : excN 36 7 = some ((38, 9)) := rfl
theorem xT_38_61 : excN 38 61 = some ((39, 63)) := rfl
theorem xT_39_69 : excN 39 69 = some ((39, 71)) := rfl
theorem xT_40_80 : excN 40 80 = some ((39, 82)) := rfl
theorem xT_41_50 : excN 41 50 = some ((39, 52)) := rfl
theorem xT_42_51 : excN 42 51 = some ((39, 53)) := rfl
theorem xT_12_18 : excN 12 18 = none := rfl
theorem xT_30_8 : excN 30 8 = none := rfl
theorem xT_30_44 : excN 30 44 = none := rfl
theorem xT_31_7 : excN 31 7 = none := rfl
theorem xT_31_16 : excN 31 16 = none := rfl
theorem xT_31_23 : excN 31 23 = none := rfl
theorem xT_34_9 : excN 34 9 = none := rfl
theorem xT_34_34 : excN 34 34 = none := rfl
theorem xT_34_87 : excN 34 87 = none := rfl
theorem xT_34_90 : excN 34 90 = none := rfl
theorem xT_34_93 : excN 34 93 = none := rfl
theorem xT_34_96 : excN 34 96 = none := rfl
theorem xT_34_99 : excN 34 99 = none := rfl
theorem xT_34_112 : excN 34 112 = none := rfl
theorem xT_34_351 : excN 34 351 = none := rfl
theorem xT_34_359 : excN 34 359 = none := rfl
theorem xT_34_385 : excN 34 385 = none := rfl
theorem xT_34_396 : excN 34 396 = none := rfl
theorem xT_34_413 : excN 34 413 = none := rfl
theorem xT_34_416 : excN 34 416 = none := rfl
theorem xT_34_419 : excN 34 419 = none := rfl
theorem xT_34_422 : excN 34 422 = none := rfl
theorem xT_34_427 : excN 34 427 = none := rfl
theorem xT_34_432 : excN 34 432 = none := rfl
theorem xT_34_435 : excN 34 435 = none := rfl
theorem xT_34_438 : excN 34 438 = none := rfl
theorem xT_34_441 : excN 34 441 = none := rfl
theorem xT_34_446 : excN 34 446 = none := rfl
theorem xT_34_449 : excN 34 449 = none := rfl
theorem xT_34_452 : excN 34 452 = none := rfl
theorem xT_34_457 : excN 34 457 = none := rfl
theorem xT_34_463 : excN 34 463 = none := rfl
def newT_12 : List (Nat × Nat × Nat) := [(18, (13, 4))]
def newT_30 : List (Nat × Nat × Nat) := [(8, (0, 7)), (44, (41, 100))]
def newT_31 : List (Nat × Nat × Nat) := [(7, (1, 16)), (16, (2, 33)), (23, (3, 25))]
def newT_34 : List (Nat × Nat × Nat) := [(9, (4, 7)), (34, (36, 3)), (87, (7, 3)), (90, (8, 3)), (93, (9, 4)), (96, (10, 3)), (99, (11, 4)), (112, (33, 4)), (351, (15, 9)), (359, (16, 6)), (385, (17, 6)), (396, (30, 6)), (413, (18, 6)), (416, (19, 6)), (419, (20, 6)), (422, (21, 7)), (427, (22, 7)), (432, (23, 7)), (435, (24, 9)), (438, (25, 9)), (441, (26, 8)), (446, (27, 8)), (449, (28, 8)), (452, (29, 8)), (457, (31, 8)), (463, (32, 7))]
def newTL : List (Nat × List (Nat × Nat × Nat)) := [(12, newT_12), (30, newT_30), (31, newT_31), (34, newT_34)]
def newT (o i : Nat) : Option (Nat × Nat) := tb newTL o i
theorem nT_12_18 : newT 12 18 = some ((13, 4)) := rfl
theorem nT_30_8 : newT 30 8 = some ((0, 7)) := rfl
theorem nT_30_44 : newT 30 44 = some ((41, 100)) := rfl
theorem nT_31_7 : newT 31 7 = some ((1, 16)) := rfl
theorem nT_31_16 : newT 31 16 = some ((2, 33)) := rfl
theorem nT_31_23 : newT 31 23 = some ((3, 25)) := rfl
theorem nT_34_9 : newT 34 9 = some ((4, 7)) := rfl
theorem nT_34_34 : newT 34 34 = some ((36, 3)) := rfl
theorem nT_34_87 : newT 34 87 = some ((7, 3)) := rfl
theorem nT_34_90 : newT 34 90 = some ((8, 3)) := rfl
theorem nT_34_93 : newT 34 93 = some ((9, 4)) := rfl
theorem nT_34_96 : newT 34 96 = some ((10, 3)) := rfl
theorem nT_34_99 : newT 34 99 = some ((11, 4)) := rfl
theorem nT_34_112 : newT 34 112 = some ((33, 4)) := rfl
theorem nT_34_351 : newT 34 351 = some ((15, 9)) := rfl
theorem nT_34_359 : newT 34 359 = some ((16, 6)) := rfl
theorem nT_34_385 : newT 34 385 = some ((17, 6)) := rfl
theorem nT_34_396 : newT 34 396 = some ((30, 6)) := rfl
theorem nT_34_413 : newT 34 413 = some ((18, 6)) := rfl
theorem nT_34_416 : newT 34 416 = some ((19, 6)) := rfl
theorem nT_34_419 : newT 34 419 = some ((20, 6)) := rfl
theorem nT_34_422 : newT 34 422 = some ((21, 7)) := rfl
theorem nT_34_427 : newT 34 427 = some ((22, 7)) := rfl
theorem nT_34_432 : newT 34 432 = some ((23, 7)) := rfl
theorem nT_34_435 : newT 34 435 = some ((24, 9)) := rfl
theorem nT_34_438 : newT 34 438 = some ((25, 9)) := rfl
theorem nT_34_441 : newT 34 441 = some ((26, 8)) := rfl
theorem nT_34_446 : newT 34 446 = some ((27, 8)) := rfl
theorem nT_34_449 : newT 34 449 = some ((28, 8)) := rfl
theorem nT_34_452 : newT 34 452 = some ((29, 8)) := rfl
theorem nT_34_457 : newT 34 457 = some ((31, 8)) := rfl
theorem nT_34_463 : newT 34 463 = some ((32, 7)) := rfl
def ckT_16 : List (Nat × List Nat × List Nat) := [(311, ([201], []))]
def ckT_33 : List (Nat × List Nat × List Nat) := [(126, ([7, 8, 9], [0, 1, 2, 3, 4, 5, 6, 10, 11, 12, 13, 15, 16, 17, 18, 19, 20, 21, 22, 23, 24, 25, 26, 27, 28, 29, 30, 31, 32, 33, 34, 35, 36, 37, 38, 39, 40, 41, 42, 43, 44, 200, 201, 202, 203, 204, 205, 206, 207, 210, 211, 212, 213, 214, 215, 216, 217, 218])), (183, ([11], [0, 1, 2, 3, 4, 5, 6, 7, 8, 9, 10, 12, 13, 14, 15, 16, 17, 18, 19, 20, 21, 22, 23, 24, 25, 26, 27, 28, 29, 30, 31, 32, 33, 34, 35, 36, 37, 38, 39, 40, 41, 42, 43, 44, 200, 201, 202, 203, 204, 205, 206, 207, 210, 211, 212, 213, 214, 215, 216, 217, 218])), (189, ([7], [0, 1, 2, 3, 4, 5, 6, 8, 9, 10, 11, 12, 13, 14, 15, 16, 17, 18, 19, 20, 21, 22, 23, 24, 25, 26, 27, 28, 29, 30, 31, 32, 33, 34, 35, 36, 37, 38, 39, 40, 41, 42, 43, 44, 200, 201, 202, 203, 204, 205, 206, 207, 210, 211, 212, 213, 214, 215, 216, 217, 218])), (195, ([8], [0, 1, 2, 3, 4, 5, 6, 7, 9, 10, 11, 12, 13, 14, 15, 16, 17, 18, 19, 20, 21, 22, 23, 24, 25, 26, 27, 28, 29, 30, 31, 32, 33, 34, 35, 36, 37, 38, 39, 40, 41, 42, 43, 44, 200, 201, 202, 203, 204, 205, 206, 207, 210, 211, 212, 213, 214, 215, 216, 217, 218])), (200, ([9], [0, 1, 2, 3, 4, 5, 6, 7, 8, 10, 11, 12, 13, 14, 15, 16, 17, 18, 19, 20, 21, 22, 23, 24, 25, 26, 27, 28, 29, 30, 31, 32, 33, 34, 35, 36, 37, 38, 39, 40, 41, 42, 43, 44, 200, 201, 202, 203, 204, 205, 206, 207, 210, 211, 212, 213, 214, 215, 216, 217, 218])), (205, ([10], [0, 1, 2, 3, 4, 5, 6, 7, 8, 9, 11, 12, 13, 14, 15, 16, 17, 18, 19, 20, 21, 22, 23, 24, 25, 26, 27, 28, 29, 30, 31, 32, 33, 34, 35, 36, 37, 38, 39, 40, 41, 42, 43, 44, 200, 201, 202, 203, 204, 205, 206, 207, 210, 211, 212, 213, 214, 215, 216, 217, 218]))]
def ckT_34 : List (Nat × List Nat × List Nat) := [(461, ([202], [0, 1, 2, 3, 4, 5, 6, 7, 8, 9, 10, 11, 12, 13, 14, 15, 16, 17, 18, 19, 20, 21, 22, 23, 24, 25, 26, 27, 28, 29, 30, 31, 32, 33, 34, 35, 36, 37, 38, 39, 40, 41, 42, 43, 44, 200, 201, 203, 204, 205, 206, 207, 210, 211, 212, 213, 214, 215, 216, 217, 218]))]
def ckT_38 : List (Nat × List Nat × List Nat) := [(9, ([207], [0, 1, 2, 3, 4, 5, 6, 7, 8, 9, 10, 11, 12, 13, 14, 15, 16, 17, 18, 19, 20, 21, 22, 23, 24, 25, 26, 27, 28, 29, 30, 31, 32, 33, 34, 35, 36, 37, 38, 39, 40, 41, 42, 43, 44, 200, 201, 202, 203, 204, 205, 206, 210, 211, 212, 213, 214, 215, 216, 217, 218]))]
def ckT_39 : List (Nat × List Nat × List Nat) := [(23, ([207], [0, 1, 2, 3, 4, 5, 6, 7, 8, 9, 10, 11, 12, 13, 14, 15, 16, 17, 18, 19, 20, 21, 22, 23, 24, 25, 26, 27, 28, 29, 30, 31, 32, 33, 34, 35, 36, 37, 38, 39, 40, 41, 42, 43, 44, 200, 201, 202, 203, 204, 205, 206, 210, 211, 212, 213, 214, 215, 216, 217, 218])), (52, ([206], [0, 1, 2, 3, 4, 5, 6, 7, 8, 9, 10, 11, 12, 13, 14, 15, 16, 17, 18, 19, 20, 21, 22, 23, 24, 25, 26, 27, 28, 29, 30, 31, 32, 33, 34, 35, 36, 37, 38, 39, 40, 41, 42, 43, 44, 200, 201, 202, 203, 204, 205, 207, 210, 211, 212, 213, 214, 215, 216, 217, 218]))]
def ckT_40 : List (Nat × List Nat × List Nat) := [(9, ([207], [0, 1, 2, 3, 4, 5, 6, 7, 8, 9, 10, 11, 12, 13, 14, 15, 16, 17, 18, 19, 20, 21, 22, 23, 24, 25, 26, 27, 28, 29, 30, 31, 32, 33, 34, 35, 36, 37, 38, 39, 40, 41, 42, 43, 44, 200, 201, 202, 203, 204, 205, 206, 210, 211, 212, 213, 214, 215, 216, 217, 218])), (17, ([204], [0, 1, 2, 3, 4, 5, 6, 7, 8, 9, 10, 11, 12, 13, 14, 15, 16, 17, 18, 19, 20, 21, 22, 23, 24, 25, 26, 27, 28, 29, 30, 31, 32, 33, 34, 35, 36, 37, 38, 39, 40, 41, 42, 43, 44, 200, 201, 202, 203, 205, 206, 207, 210, 211, 212, 213, 214, 215, 216, 217, 218])), (59, ([203], [0, 1, 2, 3, 4, 5, 6, 7, 8, 9, 10, 11, 12, 13, 14, 15, 16, 17, 18, 19, 20, 21, 22, 23, 24, 25, 26, 27, 28, 29, 30, 31, 32, 33, 34, 35, 36, 37, 38, 39, 40, 41, 42, 43, 44, 200, 201, 202, 204, 205, 206, 207, 210, 211, 212, 213, 214, 215, 216, 217, 218]))]
def ckT_41 : List (Nat × List Nat × List Nat) := [(9, ([200], [0, 1, 2, 3, 4, 5, 6, 7, 8, 9, 10, 11, 12, 13, 14, 15, 16, 17, 18, 19, 20, 21, 22, 23, 24, 25, 26, 27, 28, 29, 30, 31, 32, 33, 34, 35, 36, 37, 38, 39, 40, 41, 42, 43, 44, 201, 202, 203, 204, 205, 206, 207, 210, 211, 212, 213, 214, 215, 216, 217, 218]))]
def ckT_42 : List (Nat × List Nat × List Nat) := [(9, ([202], [0, 1, 2, 3, 4, 5, 6, 7, 8, 9, 10, 11, 12, 13, 14, 15, 16, 17, 18, 19, 20, 21, 22, 23, 24, 25, 26, 27, 28, 29, 30, 31, 32, 33, 34, 35, 36, 37, 38, 39, 40, 41, 42, 43, 44, 200, 201, 203, 204, 205, 206, 207, 210, 211, 212, 213, 214, 215, 216, 217, 218]))]
def ckT_47 : List (Nat × List Nat × List Nat) := [(21, ([7, 8, 9], [0, 1, 2, 3, 4, 5, 6, 10, 11, 12, 13, 15, 16, 17, 18, 19, 20, 21, 22, 23, 24, 25, 26, 27, 28, 29, 30, 31, 32, 33, 34, 35, 36, 37, 38, 39, 40, 41, 42, 43, 44, 200, 201, 202, 203, 204, 205, 206, 207, 210, 211, 212, 213, 214, 215, 216, 217, 218])), (34, ([10], [0, 1, 2, 3, 4, 5, 6, 7, 8, 9, 11, 12, 13, 14, 15, 16, 17, 18, 19, 20, 21, 22, 23, 24, 25, 26, 27, 28, 29, 30, 31, 32, 33, 34, 35, 36, 37, 38, 39, 40, 41, 42, 43, 44, 200, 201, 202, 203, 204, 205, 206, 207, 210, 211, 212, 213, 214, 215, 216, 217, 218])), (44, ([11], [0, 1, 2, 3, 4, 5, 6, 7, 8, 9, 10, 12, 13, 14, 15, 16, 17, 18, 19, 20, 21, 22, 23, 24, 25, 26, 27, 28, 29, 30, 31, 32, 33, 34, 35, 36, 37, 38, 39, 40, 41, 42, 43, 44, 200, 201, 202, 203, 204, 205, 206, 207, 210, 211, 212, 213, 214, 215, 216, 217, 218])), (77, ([9], [0, 1, 2, 3, 4, 5, 6, 7, 8, 10, 11, 12, 13, 14, 15, 16, 17, 18, 19, 20, 21, 22, 23, 24, 25, 26, 27, 28, 29, 30, 31, 32, 33, 34, 35, 36, 37, 38, 39, 40, 41, 42, 43, 44, 200, 201, 202, 203, 204, 205, 206, 207, 210, 211, 212, 213, 214, 215, 216, 217, 218]))]
def ckT_68 : List (Nat × List Nat × List Nat) := [(23, ([204], [0, 1, 2, 3, 4, 5, 6, 7, 8, 9, 10, 11, 12, 13, 14, 15, 16, 17, 18, 19, 20, 21, 22, 23, 24, 25, 26, 27, 28, 29, 30, 31, 32, 33, 34, 35, 36, 37, 38, 39, 40, 41, 42, 43, 44, 200, 201, 202, 203, 205, 206, 207, 210, 211, 212, 213, 214, 215, 216, 217, 218])), (29, ([207], [0, 1, 2, 3, 4, 5, 6, 7, 8, 9, 10, 11, 12, 13, 14, 15, 16, 17, 18, 19, 20, 21, 22, 23, 24, 25, 26, 27, 28, 29, 30, 31, 32, 33, 34, 35, 36, 37, 38, 39, 40, 41, 42, 43, 44, 200, 201, 202, 203, 204, 205, 206, 210, 211, 212, 213, 214, 215, 216, 217, 218])), (34, ([202], [0, 1, 2, 3, 4, 5, 6, 7, 8, 9, 10, 11, 12, 13, 14, 15, 16, 17, 18, 19, 20, 21, 22, 23, 24, 25, 26, 27, 28, 29, 30, 31, 32, 33, 34, 35, 36, 37, 38, 39, 40, 41, 42, 43, 44, 200, 201, 203, 204, 205, 206, 207, 210, 211, 212, 213, 214, 215, 216, 217, 218]))]
def ckTL : List (Nat × List (Nat × List Nat × List Nat)) := [(16, ckT_16), (33, ckT_33), (34, ckT_34), (38, ckT_38), (39, ckT_39), (40, ckT_40), (41, ckT_41), (42, ckT_42), (47, ckT_47), (68, ckT_68)]
def ckT (o i : Nat) : Option (List Nat × List Nat) := tb ckTL o i
theorem kT_16_311 : ckT 16 311 = some (([201], [])) := rfl
theorem kT_33_126 : ckT 33 126 = some (([7, 8, 9], [0, 1, 2, 3, 4, 5, 6, 10, 11, 12, 13, 15, 16, 17, 18, 19, 20, 21, 22, 23, 24, 25, 26, 27, 28, 29, 30, 31, 32, 33, 34, 35, 36, 37, 38, 39, 40, 41, 42, 43, 44, 200, 201, 202, 203, 204, 205, 206, 207, 210, 211, 212, 213, 214, 215, 216, 217, 218])) := rfl
theorem kT_33_183 : ckT 33 183 = some (([11], [0, 1, 2, 3, 4, 5, 6, 7, 8, 9, 10, 12, 13, 14, 15, 16, 17, 18, 19, 20, 21, 22, 23, 24, 25, 26, 27, 28, 29, 30, 31, 32, 33, 34, 35, 36, 37, 38, 39, 40, 41, 42, 43, 44, 200, 201, 202, 203, 204, 205, 206, 207, 210, 211, 212, 213, 214, 215, 216, 217, 218])) := rfl
theorem kT_33_189 : ckT 33 189 = some (([7], [0, 1, 2, 3, 4, 5, 6, 8, 9, 10, 11, 12, 13, 14, 15, 16, 17, 18, 19, 20, 21, 22, 23, 24, 25, 26, 27, 28, 29, 30, 31, 32, 33, 34, 35, 36, 37, 38, 39, 40, 41, 42, 43, 44, 200, 201, 202, 203, 204, 205, 206, 207, 210, 211, 212, 213, 214, 215, 216, 217, 218])) := rfl
theorem kT_33_195 : ckT 33 195 = some (([8], [0, 1, 2, 3, 4, 5, 6, 7, 9, 10, 11, 12, 13, 14, 15, 16, 17, 18, 19, 20, 21, 22, 23, 24, 25, 26, 27, 28, 29, 30, 31, 32, 33, 34, 35, 36, 37, 38, 39, 40, 41, 42, 43, 44, 200, 201, 202, 203, 204, 205, 206, 207, 210, 211, 212, 213, 214, 215, 216, 217, 218])) := rfl
theorem kT_33_200 : ckT 33 200 = some (([9], [0, 1, 2, 3, 4, 5, 6, 7, 8, 10, 11, 12, 13, 14, 15, 16, 17, 18, 19, 20, 21, 22, 23, 24, 25, 26, 27, 28, 29, 30, 31, 32, 33, 34, 35, 36, 37, 38, 39, 40, 41, 42, 43, 44, 200, 201, 202, 203, 204, 205, 206, 207, 210, 211, 212, 213, 214, 215, 216, 217, 218])) := rfl
theorem kT_33_205 : ckT 33 205 = some (([10], [0, 1, 2, 3, 4, 5, 6, 7, 8, 9, 11, 12, 13, 14, 15, 16, 17, 18, 19, 20, 21, 22, 23, 24, 25, 26, 27, 28, 29, 30, 31, 32, 33, 34, 35, 36, 37, 38, 39, 40, 41, 42, 43, 44, 200, 201, 202, 203, 204, 205, 206, 207, 210, 211, 212, 213, 214, 215, 216, 217, 218])) := rfl
theorem kT_34_461 : ckT 34 461 = some (([202], [0, 1, 2, 3, 4, 5, 6, 7, 8, 9, 10, 11, 12, 13, 14, 15, 16, 17, 18, 19, 20, 21, 22, 23, 24, 25, 26, 27, 28, 29, 30, 31, 32, 33, 34, 35, 36, 37, 38, 39, 40, 41, 42, 43, 44, 200, 201, 203, 204, 205, 206, 207, 210, 211, 212, 213, 214, 215, 216, 217, 218])) := rfl
theorem kT_38_9 : ckT 38 9 = some (([207], [0, 1, 2, 3, 4, 5, 6, 7, 8, 9, 10, 11, 12, 13, 14, 15, 16, 17, 18, 19, 20, 21, 22, 23, 24, 25, 26, 27, 28, 29, 30, 31, 32, 33, 34, 35, 36, 37, 38, 39, 40, 41, 42, 43, 44, 200, 201, 202, 203, 204, 205, 206, 210, 211, 212, 213, 214, 215, 216, 217, 218])) := rfl
theorem kT_39_23 : ckT 39 23 = some (([207], [0, 1, 2, 3, 4, 5, 6, 7, 8, 9, 10, 11, 12, 13, 14, 15, 16, 17, 18, 19, 20, 21, 22, 23, 24, 25, 26, 27, 28, 29, 30, 31, 32, 33, 34, 35, 36, 37, 38, 39, 40, 41, 42, 43, 44, 200, 201, 202, 203, 204, 205, 206, 210, 211, 212, 213, 214, 215, 216, 217, 218])) := rfl
theorem kT_39_52 : ckT 39 52 = some (([206], [0, 1, 2, 3, 4, 5, 6, 7, 8, 9, 10, 11, 12, 13, 14, 15, 16, 17, 18, 19, 20, 21, 22, 23, 24, 25, 26, 27, 28, 29, 30, 31, 32, 33, 34, 35, 36, 37, 38, 39, 40, 41, 42, 43, 44, 200, 201, 202, 203, 204, 205, 207, 210, 211, 212, 213, 214, 215, 216, 217, 218])) := rfl
theorem kT_40_9 : ckT 40 9 = some (([207], [0, 1, 2, 3, 4, 5, 6, 7, 8, 9, 10, 11, 12, 13, 14, 15, 16, 17, 18, 19, 20, 21, 22, 23, 24, 25, 26, 27, 28, 29, 30, 31, 32, 33, 34, 35, 36, 37, 38, 39, 40, 41, 42, 43, 44, 200, 201, 202, 203, 204, 205, 206, 210, 211, 212, 213, 214, 215, 216, 217, 218])) := rfl
theorem kT_40_17 : ckT 40 17 = some (([204], [0, 1, 2, 3, 4, 5, 6, 7, 8, 9, 10, 11, 12, 13, 14, 15, 16, 17, 18, 19, 20, 21, 22, 23, 24, 25, 26, 27, 28, 29, 30, 31, 32, 33, 34, 35, 36, 37, 38, 39, 40, 41, 42, 43, 44, 200, 201, 202, 203, 205, 206, 207, 210, 211, 212, 213, 214, 215, 216, 217, 218])) := rfl
theorem kT_40_59 : ckT 40 59 = some (([203], [0, 1, 2, 3, 4, 5, 6, 7, 8, 9, 10, 11, 12, 13, 14, 15, 16, 17, 18, 19, 20, 21, 22, 23, 24, 25, 26, 27, 28, 29, 30, 31, 32, 33, 34, 35, 36, 37, 38, 39, 40, 41, 42, 43, 44, 200, 201, 202, 204, 205, 206, 207, 210, 211, 212, 213, 214, 215, 216, 217, 218])) := rfl
theorem kT_41_9 : ckT 41 9 = some (([200], [0, 1, 2, 3, 4, 5, 6, 7, 8, 9, 10, 11, 12, 13, 14, 15, 16, 17, 18, 19, 20, 21, 22, 23, 24, 25, 26, 27, 28, 29, 30, 31, 32, 33, 34, 35, 36, 37, 38, 39, 40, 41, 42, 43, 44, 201, 202, 203, 204, 205, 206, 207, 210, 211, 212, 213, 214, 215, 216, 217, 218])) := rfl
theorem kT_42_9 : ckT 42 9 = some (([202], [0, 1, 2, 3, 4, 5, 6, 7, 8, 9, 10, 11, 12, 13, 14, 15, 16, 17, 18, 19, 20, 21, 22, 23, 24, 25, 26, 27, 28, 29, 30, 31, 32, 33, 34, 35, 36, 37, 38, 39, 40, 41, 42, 43, 44, 200, 201, 203, 204, 205, 206, 207, 210, 211, 212, 213, 214, 215, 216, 217, 218])) := rfl
theorem kT_47_21 : ckT 47 21 = some (([7, 8, 9], [0, 1, 2, 3, 4, 5, 6, 10, 11, 12, 13, 15, 16, 17, 18, 19, 20, 21, 22, 23, 24, 25, 26, 27, 28, 29, 30, 31, 32, 33, 34, 35, 36, 37, 38, 39, 40, 41, 42, 43, 44, 200, 201, 202, 203, 204, 205, 206, 207, 210, 211, 212, 213, 214, 215, 216, 217, 218])) := rfl
theorem kT_47_34 : ckT 47 34 = some (([10], [0, 1, 2, 3, 4, 5, 6, 7, 8, 9, 11, 12, 13, 14, 15, 16, 17, 18, 19, 20, 21, 22, 23, 24, 25, 26, 27, 28, 29, 30, 31, 32, 33, 34, 35, 36, 37, 38, 39, 40, 41, 42, 43, 44, 200, 201, 202, 203, 204, 205, 206, 207, 210, 211, 212, 213, 214, 215, 216, 217, 218])) := rfl
theorem kT_47_44 : ckT 47 44 = some (([11], [0, 1, 2, 3, 4, 5, 6, 7, 8, 9, 10, 12, 13, 14, 15, 16, 17, 18, 19, 20, 21, 22, 23, 24, 25, 26, 27, 28, 29, 30, 31, 32, 33, 34, 35, 36, 37, 38, 39, 40, 41, 42, 43, 44, 200, 201, 202, 203, 204, 205, 206, 207, 210, 211, 212, 213, 214, 215, 216, 217, 218])) := rfl
theorem kT_47_77 : ckT 47 77 = some (([9], [0, 1, 2, 3, 4, 5, 6, 7, 8, 10, 11, 12, 13, 14, 15, 16, 17, 18, 19, 20, 21, 22, 23, 24, 25, 26, 27, 28, 29, 30, 31, 32, 33, 34, 35, 36, 37, 38, 39, 40, 41, 42, 43, 44, 200, 201, 202, 203, 204, 205, 206, 207, 210, 211, 212, 213, 214, 215, 216, 217, 218])) := rfl
theorem kT_68_23 : ckT 68 23 = some (([204], [0, 1, 2, 3, 4, 5, 6, 7, 8, 9, 10, 11, 12, 13, 14, 15, 16, 17, 18, 19, 20, 21, 22, 23, 24, 25, 26, 27, 28, 29, 30, 31, 32, 33, 34, 35, 36, 37, 38, 39, 40, 41, 42, 43, 44, 200, 201, 202, 203, 205, 206, 207, 210, 211, 212, 213, 214, 215, 216, 217, 218])) := rfl
theorem kT_68_29 : ckT 68 29 = some (([207], [0, 1, 2, 3, 4, 5, 6, 7, 8, 9, 10, 11, 12, 13, 14, 15, 16, 17, 18, 19, 20, 21, 22, 23, 24, 25, 26, 27, 28, 29, 30, 31, 32, 33, 34, 35, 36, 37, 38, 39, 40, 41, 42, 43, 44, 200, 201, 202, 203, 204, 205, 206, 210, 211, 212, 213, 214, 215, 216, 217, 218])) := rfl
theorem kT_68_34 : ckT 68 34 = some (([202], [0, 1, 2, 3, 4, 5, 6, 7, 8, 9, 10, 11, 12, 13, 14, 15, 16, 17, 18, 19, 20, 21, 22, 23, 24, 25, 26, 27, 28, 29, 30, 31, 32, 33, 34, 35, 36, 37, 38, 39, 40, 41, 42, 43, 44, 200, 201, 203, 204, 205, 206, 207, 210, 211, 212, 213, 214, 215, 216, 217, 218])) := rfl
def natT_15 : List (Nat × Nat) := [(68, 2), (79, 0), (162, 3), (166, 1), (299, 9)]
def natT_16 : List (Nat × Nat) := [(150, 4)]
def natT_18 : List (Nat × Nat) := [(74, 2)]
def natT_19 : List (Nat × Nat) := [(77, 0), (89, 1), (95, 9), (98, 7)]
def natT_20 : List (Nat × Nat) := [(134, 0)]
def natT_25 : List (Nat × Nat) := [(16, 0), (24, 1)]
def natT_33 : List (Nat × Nat) := [(319, 5), (324, 6)]
def natT_34 : List (Nat × Nat) := [(321, 4)]
def natT_38 : List (Nat × Nat) := [(38, 5), (44, 6)]
def natT_43 : List (Nat × Nat) := [(9, 1), (29, 3)]
def natT_44 : List (Nat × Nat) := [(23, 7)]
def natT_45 : List (Nat × Nat) := [(38, 5), (44, 6)]
def natT_50 : List (Nat × Nat) := [(26, 7), (32, 5)]
def natT_51 : List (Nat × Nat) := [(22, 5)]
def natT_52 : List (Nat × Nat) := [(18, 5)]
def natT_53 : List (Nat × Nat) := [(22, 8), (67, 5)]
def natT_54 : List (Nat × Nat) := [(38, 6), (50, 5)]
def natT_60 : List (Nat × Nat) := [(26, 6), (39, 5)]
def natT_67 : List (Nat × Nat) := [(42, 6), (51, 5)]
def natT_68 : List (Nat × Nat) := [(80, 6), (86, 5)]
def natTL : List (Nat × List (Nat × Nat)) := [(15, natT_15), (16, natT_16), (18, natT_18), (19, natT_19), (20, natT_20), (25, natT_25), (33, natT_33), (34, natT_34), (38, natT_38), (43, natT_43), (44, natT_44), (45, natT_45), (50, natT_50), (51, natT_51), (52, natT_52), (53, natT_53), (54, natT_54), (60, natT_60), (67, natT_67), (68, natT_68)]
def natT (o i : Nat) : Option (Nat) := tb natTL o i
theorem zT_15_68 : natT 15 68 = some (2) := rfl
theorem zT_15_79 : natT 15 79 = some (0) := rfl
theorem zT_15_162 : natT 15 162 = some (3) := rfl
theorem zT_15_166 : natT 15 166 = some (1) := rfl
theorem zT_15_299 : natT 15 299 = some (9) := rfl
theorem zT_16_150 : natT 16 150 = some (4) := rfl
theorem zT_18_74 : natT 18 74 = some (2) := rfl
theorem zT_19_77 : natT 19 77 = some (0) := rfl
theorem zT_19_89 : natT 19 89 = some (1) := rfl
theorem zT_19_95 : natT 19 95 = some (9) := rfl
theorem zT_19_98 : natT 19 98 = some (7) := rfl
theorem zT_20_134 : natT 20 134 = some (0) := rfl
theorem zT_25_16 : natT 25 16 = some (0) := rfl
theorem zT_25_24 : natT 25 24 = some (1) := rfl
theorem zT_33_319 : natT 33 319 = some (5) := rfl
theorem zT_33_324 : natT 33 324 = some (6) := rfl
theorem zT_34_321 : natT 34 321 = some (4) := rfl
theorem zT_38_38 : natT 38 38 = some (5) := rfl
theorem zT_38_44 : natT 38 44 = some (6) := rfl
theorem zT_43_9 : natT 43 9 = some (1) := rfl
theorem zT_43_29 : natT 43 29 = some (3) := rfl
theorem zT_44_23 : natT 44 23 = some (7) := rfl
theorem zT_45_38 : natT 45 38 = some (5) := rfl
theorem zT_45_44 : natT 45 44 = some (6) := rfl
theorem zT_50_26 : natT 50 26 = some (7) := rfl
theorem zT_50_32 : natT 50 32 = some (5) := rfl
theorem zT_51_22 : natT 51 22 = some (5) := rfl
theorem zT_52_18 : natT 52 18 = some (5) := rfl
theorem zT_53_22 : natT 53 22 = some (8) := rfl
theorem zT_53_67 : natT 53 67 = some (5) := rfl
theorem zT_54_38 : natT 54 38 = some (6) := rfl
theorem zT_54_50 : natT 54 50 = some (5) := rfl
theorem zT_60_26 : natT 60 26 = some (6) := rfl
theorem zT_60_39 : natT 60 39 = some (5) := rfl
theorem zT_67_42 : natT 67 42 = some (6) := rfl
theorem zT_67_51 : natT 67 51 = some (5) := rfl
theorem zT_68_80 : natT 68 80 = some (6) := rfl
theorem zT_68_86 : natT 68 86 = some (5) := rfl
theorem zT_3_47 : natT 3 47 = none := rfl
theorem zT_3_54 : natT 3 54 = none := rfl
theorem zT_3_495 : natT 3 495 = none := rfl
theorem zT_3_498 : natT 3 498 = none := rfl
theorem zT_3_637 : natT 3 637 = none := rfl
theorem zT_3_640 : natT 3 640 = none := rfl
theorem zT_3_1051 : natT 3 1051 = none := rfl
theorem zT_3_1059 : natT 3 1059 = none := rfl
theorem zT_3_1062 : natT 3 1062 = none := rfl
theorem zT_3_1065 : natT 3 1065 = none := rfl
theorem zT_4_9 : natT 4 9 = none := rfl
theorem zT_4_38 : natT 4 38 = none := rfl
theorem zT_4_88 : natT 4 88 = none := rfl
theorem zT_4_92 : natT 4 92 = none := rfl
theorem zT_4_95 : natT 4 95 = none := rfl
theorem zT_4_240 : natT 4 240 = none := rfl
theorem zT_6_11 : natT 6 11 = none := rfl
theorem zT_6_48 : natT 6 48 = none := rfl
theorem zT_6_67 : natT 6 67 = none := rfl
theorem zT_6_71 : natT 6 71 = none := rfl
theorem zT_6_96 : natT 6 96 = none := rfl
theorem zT_6_111 : natT 6 111 = none := rfl
theorem zT_6_123 : natT 6 123 = none := rfl
theorem zT_6_126 : natT 6 126 = none := rfl
theorem zT_6_157 : natT 6 157 = none := rfl
theorem zT_6_161 : natT 6 161 = none := rfl
theorem zT_6_164 : natT 6 164 = none := rfl
theorem zT_6_173 : natT 6 173 = none := rfl
theorem zT_6_183 : natT 6 183 = none := rfl
theorem zT_6_224 : natT 6 224 = none := rfl
theorem zT_6_228 : natT 6 228 = none := rfl
theorem zT_6_232 : natT 6 232 = none := rfl
theorem zT_6_241 : natT 6 241 = none := rfl
theorem zT_6_244 : natT 6 244 = none := rfl
theorem zT_6_414 : natT 6 414 = none := rfl
theorem zT_6_419 : natT 6 419 = none := rfl
theorem zT_11_26 : natT 11 26 = none := rfl
theorem zT_11_108 : natT 11 108 = none := rfl
theorem zT_11_114 : natT 11 114 = none := rfl
theorem zT_11_125 : natT 11 125 = none := rfl
theorem zT_11_191 : natT 11 191 = none := rfl
theorem zT_11_197 : natT 11 197 = none := rfl
theorem zT_14_194 : natT 14 194 = none := rfl
theorem zT_14_201 : natT 14 201 = none := rfl
theorem zT_15_43 : natT 15 43 = none := rfl
theorem zT_15_53 : natT 15 53 = none := rfl
theorem zT_15_56 : natT 15 56 = none := rfl
theorem zT_15_59 : natT 15 59 = none := rfl
theorem zT_15_205 : natT 15 205 = none := rfl
theorem zT_15_224 : natT 15 224 = none := rfl
theorem zT_16_304 : natT 16 304 = none := rfl
theorem zT_16_339 : natT 16 339 = none := rfl
theorem zT_16_343 : natT 16 343 = none := rfl
theorem zT_18_59 : natT 18 59 = none := rfl
theorem zT_19_47 : natT 19 47 = none := rfl
theorem zT_19_60 : natT 19 60 = none := rfl
theorem zT_19_66 : natT 19 66 = none := rfl
theorem zT_20_122 : natT 20 122 = none := rfl
theorem zT_23_308 : natT 23 308 = none := rfl
theorem zT_23_311 : natT 23 311 = none := rfl
theorem zT_24_13 : natT 24 13 = none := rfl
theorem zT_24_17 : natT 24 17 = none := rfl
theorem zT_24_24 : natT 24 24 = none := rfl
theorem zT_24_33 : natT 24 33 = none := rfl
theorem zT_26_259 : natT 26 259 = none := rfl
theorem zT_30_91 : natT 30 91 = none := rfl
theorem zT_30_100 : natT 30 100 = none := rfl
theorem zT_30_103 : natT 30 103 = none := rfl
theorem zT_30_107 : natT 30 107 = none := rfl
theorem zT_30_110 : natT 30 110 = none := rfl
theorem zT_30_113 : natT 30 113 = none := rfl
theorem zT_30_116 : natT 30 116 = none := rfl
theorem zT_30_119 : natT 30 119 = none := rfl
theorem zT_31_151 : natT 31 151 = none := rfl
theorem zT_31_212 : natT 31 212 = none := rfl
theorem zT_32_131 : natT 32 131 = none := rfl
theorem zT_32_138 : natT 32 138 = none := rfl
theorem zT_32_219 : natT 32 219 = none := rfl
theorem zT_32_257 : natT 32 257 = none := rfl
theorem zT_33_122 : natT 33 122 = none := rfl
theorem zT_33_275 : natT 33 275 = none := rfl
theorem zT_33_279 : natT 33 279 = none := rfl
theorem zT_33_285 : natT 33 285 = none := rfl
theorem zT_33_292 : natT 33 292 = none := rfl
theorem zT_33_309 : natT 33 309 = none := rfl
theorem zT_34_73 : natT 34 73 = none := rfl
theorem zT_34_198 : natT 34 198 = none := rfl
theorem zT_34_317 : natT 34 317 = none := rfl
theorem zT_38_51 : natT 38 51 = none := rfl
theorem zT_38_55 : natT 38 55 = none := rfl
theorem zT_38_64 : natT 38 64 = none := rfl
theorem zT_39_9 : natT 39 9 = none := rfl
theorem zT_39_15 : natT 39 15 = none := rfl
theorem zT_39_20 : natT 39 20 = none := rfl
theorem zT_39_33 : natT 39 33 = none := rfl
theorem zT_39_37 : natT 39 37 = none := rfl
theorem zT_39_63 : natT 39 63 = none := rfl
theorem zT_39_72 : natT 39 72 = none := rfl
theorem zT_40_50 : natT 40 50 = none := rfl
theorem zT_40_56 : natT 40 56 = none := rfl
theorem zT_40_70 : natT 40 70 = none := rfl
theorem zT_40_74 : natT 40 74 = none := rfl
theorem zT_41_46 : natT 41 46 = none := rfl
theorem zT_42_45 : natT 42 45 = none := rfl
theorem zT_43_15 : natT 43 15 = none := rfl
theorem zT_43_19 : natT 43 19 = none := rfl
theorem zT_43_23 : natT 43 23 = none := rfl
theorem zT_43_26 : natT 43 26 = none := rfl
theorem zT_43_35 : natT 43 35 = none := rfl
theorem zT_43_39 : natT 43 39 = none := rfl
theorem zT_43_43 : natT 43 43 = none := rfl
theorem zT_43_50 : natT 43 50 = none := rfl
theorem zT_43_246 : natT 43 246 = none := rfl
theorem zT_43_250 : natT 43 250 = none := rfl
theorem zT_43_587 : natT 43 587 = none := rfl
theorem zT_43_592 : natT 43 592 = none := rfl
theorem zT_43_681 : natT 43 681 = none := rfl
theorem zT_43_723 : natT 43 723 = none := rfl
theorem zT_43_755 : natT 43 755 = none := rfl
theorem zT_43_759 : natT 43 759 = none := rfl
theorem zT_43_761 : natT 43 761 = none := rfl
theorem zT_43_766 : natT 43 766 = none := rfl
theorem zT_43_770 : natT 43 770 = none := rfl
theorem zT_43_773 : natT 43 773 = none := rfl
theorem zT_43_779 : natT 43 779 = none := rfl
theorem zT_43_785 : natT 43 785 = none := rfl
theorem zT_43_806 : natT 43 806 = none := rfl
theorem zT_43_809 : natT 43 809 = none := rfl
theorem zT_43_833 : natT 43 833 = none := rfl
theorem zT_43_835 : natT 43 835 = none := rfl
theorem zT_43_838 : natT 43 838 = none := rfl
theorem zT_43_846 : natT 43 846 = none := rfl
theorem zT_43_853 : natT 43 853 = none := rfl
theorem zT_43_982 : natT 43 982 = none := rfl
theorem zT_43_1020 : natT 43 1020 = none := rfl
theorem zT_44_9 : natT 44 9 = none := rfl
theorem zT_44_15 : natT 44 15 = none := rfl
theorem zT_44_20 : natT 44 20 = none := rfl
theorem zT_49_19 : natT 49 19 = none := rfl
theorem zT_50_41 : natT 50 41 = none := rfl
theorem zT_51_17 : natT 51 17 = none := rfl
theorem zT_51_31 : natT 51 31 = none := rfl
theorem zT_51_43 : natT 51 43 = none := rfl
theorem zT_51_48 : natT 51 48 = none := rfl
theorem zT_52_7 : natT 52 7 = none := rfl
theorem zT_52_13 : natT 52 13 = none := rfl
theorem zT_52_42 : natT 52 42 = none := rfl
theorem zT_52_45 : natT 52 45 = none := rfl
theorem zT_53_13 : natT 53 13 = none := rfl
theorem zT_53_19 : natT 53 19 = none := rfl
theorem zT_53_25 : natT 53 25 = none := rfl
theorem zT_53_61 : natT 53 61 = none := rfl
theorem zT_53_64 : natT 53 64 = none := rfl
theorem zT_54_44 : natT 54 44 = none := rfl
theorem zT_54_53 : natT 54 53 = none := rfl
theorem zT_55_22 : natT 55 22 = none := rfl
theorem zT_55_30 : natT 55 30 = none := rfl
theorem zT_56_25 : natT 56 25 = none := rfl
theorem zT_56_30 : natT 56 30 = none := rfl
theorem zT_57_16 : natT 57 16 = none := rfl
theorem zT_57_39 : natT 57 39 = none := rfl
theorem zT_63_36 : natT 63 36 = none := rfl
theorem zT_68_36 : natT 68 36 = none := rfl
def smT_3 : List (Nat × Nat × Nat) := [(47, (2, 203)), (54, (3, 198)), (495, (2, 42)), (498, (2, 45)), (637, (4, 415)), (640, (4, 418)), (1051, (3, 201)), (1059, (3, 44)), (1062, (4, 422)), (1065, (4, 189))]
def smT_4 : List (Nat × Nat × Nat) := [(9, (2, 43)), (38, (2, 181)), (88, (1, 416)), (92, (2, 178)), (95, (4, 417)), (240, (5, 186))]
def smT_6 : List (Nat × Nat × Nat) := [(11, (1, 171)), (48, (1, 47)), (67, (2, 46)), (71, (2, 48)), (96, (3, 420)), (111, (3, 190)), (123, (5, 202)), (126, (3, 198)), (157, (1, 426)), (161, (1, 427)), (164, (1, 425)), (173, (3, 187)), (183, (2, 181)), (224, (2, 178)), (228, (4, 419)), (232, (4, 424)), (241, (3, 421)), (244, (4, 423)), (414, (2, 43)), (419, (3, 188))]
def smT_11 : List (Nat × Nat × Nat) := [(26, (1, 170)), (108, (2, 180)), (114, (3, 177)), (125, (5, 185)), (191, (1, 183)), (197, (3, 191))]
def smT_14 : List (Nat × Nat × Nat) := [(194, (2, 178)), (201, (2, 179))]
def smT_15 : List (Nat × Nat × Nat) := [(43, (1, 264)), (53, (1, 215)), (56, (1, 219)), (59, (1, 280)), (205, (1, 273)), (224, (1, 209))]
def smT_16 : List (Nat × Nat × Nat) := [(304, (2, 181)), (339, (3, 199)), (343, (2, 200))]
def smT_18 : List (Nat × Nat × Nat) := [(59, (1, 209))]
def smT_19 : List (Nat × Nat × Nat) := [(47, (1, 265)), (60, (4, 216)), (66, (1, 217))]
def smT_20 : List (Nat × Nat × Nat) := [(122, (1, 273))]
def smT_23 : List (Nat × Nat × Nat) := [(308, (1, 523)), (311, (1, 381))]
def smT_24 : List (Nat × Nat × Nat) := [(13, (1, 266)), (17, (1, 267)), (24, (2, 268)), (33, (2, 270))]
def smT_26 : List (Nat × Nat × Nat) := [(259, (2, 269))]
def smT_30 : List (Nat × Nat × Nat) := [(91, (3, 635)), (100, (3, 636)), (103, (4, 637)), (107, (4, 638)), (110, (4, 640)), (113, (3, 642)), (116, (3, 643)), (119, (4, 644))]
def smT_31 : List (Nat × Nat × Nat) := [(151, (1, 392)), (212, (1, 366))]
def smT_32 : List (Nat × Nat × Nat) := [(131, (1, 34)), (138, (1, 36)), (219, (1, 75)), (257, (1, 65))]
def smT_33 : List (Nat × Nat × Nat) := [(122, (1, 240)), (275, (2, 379)), (279, (1, 275)), (285, (1, 65)), (292, (1, 212)), (309, (1, 381))]
def smT_34 : List (Nat × Nat × Nat) := [(73, (1, 10)), (198, (1, 65)), (317, (2, 226))]
def smT_38 : List (Nat × Nat × Nat) := [(51, (1, 275)), (55, (0, 363)), (64, (1, 366))]
def smT_39 : List (Nat × Nat × Nat) := [(9, (1, 208)), (15, (1, 210)), (20, (1, 212)), (33, (1, 207)), (37, (1, 211)), (63, (0, 363)), (72, (1, 367))]
def smT_40 : List (Nat × Nat × Nat) := [(50, (1, 214)), (56, (1, 218)), (70, (2, 328)), (74, (0, 363))]
def smT_41 : List (Nat × Nat × Nat) := [(46, (0, 363))]
def smT_42 : List (Nat × Nat × Nat) := [(45, (0, 363))]
def smT_43 : List (Nat × Nat × Nat) := [(15, (1, 366)), (19, (1, 465)), (23, (1, 532)), (26, (1, 531)), (35, (1, 367)), (39, (1, 476)), (43, (1, 475)), (50, (1, 473)), (246, (1, 410)), (250, (1, 411)), (587, (1, 472)), (592, (1, 477)), (681, (1, 513)), (723, (1, 500)), (755, (1, 540)), (759, (1, 530)), (761, (1, 533)), (766, (2, 526)), (770, (2, 527)), (773, (2, 536)), (779, (2, 539)), (785, (1, 263)), (806, (1, 521)), (809, (1, 522)), (833, (1, 544)), (835, (1, 545)), (838, (1, 547)), (846, (2, 549)), (853, (1, 550)), (982, (1, 581)), (1020, (2, 592))]
def smT_44 : List (Nat × Nat × Nat) := [(9, (1, 272)), (15, (1, 65)), (20, (1, 275))]
def smT_49 : List (Nat × Nat × Nat) := [(19, (1, 65))]
def smT_50 : List (Nat × Nat × Nat) := [(41, (1, 65))]
def smT_51 : List (Nat × Nat × Nat) := [(17, (1, 271)), (31, (1, 274)), (43, (1, 262)), (48, (1, 263))]
def smT_52 : List (Nat × Nat × Nat) := [(7, (1, 263)), (13, (1, 271)), (42, (1, 262)), (45, (1, 274))]
def smT_53 : List (Nat × Nat × Nat) := [(13, (1, 218)), (19, (1, 279)), (25, (1, 65)), (61, (1, 214)), (64, (1, 272))]
def smT_54 : List (Nat × Nat × Nat) := [(44, (1, 271)), (53, (1, 274))]
def smT_55 : List (Nat × Nat × Nat) := [(22, (1, 271)), (30, (1, 274))]
def smT_56 : List (Nat × Nat × Nat) := [(25, (1, 271)), (30, (1, 274))]
def smT_57 : List (Nat × Nat × Nat) := [(16, (2, 288)), (39, (2, 294))]
def smT_63 : List (Nat × Nat × Nat) := [(36, (1, 304))]
def smT_68 : List (Nat × Nat × Nat) := [(36, (1, 299))]
def smTL : List (Nat × List (Nat × Nat × Nat)) := [(3, smT_3), (4, smT_4), (6, smT_6), (11, smT_11), (14, smT_14), (15, smT_15), (16, smT_16), (18, smT_18), (19, smT_19), (20, smT_20), (23, smT_23), (24, smT_24), (26, smT_26), (30, smT_30), (31, smT_31), (32, smT_32), (33, smT_33), (34, smT_34), (38, smT_38), (39, smT_39), (40, smT_40), (41, smT_41), (42, smT_42), (43, smT_43), (44, smT_44), (49, smT_49), (50, smT_50), (51, smT_51), (52, smT_52), (53, smT_53), (54, smT_54), (55, smT_55), (56, smT_56), (57, smT_57), (63, smT_63), (68, smT_68)]
def smT (o i : Nat) : Option (Nat × Nat) := tb smTL o i
theorem mS_3_47 : smT 3 47 = some ((2, 203)) := rfl
theorem mS_3_54 : smT 3 54 = some ((3, 198)) := rfl
theorem mS_3_495 : smT 3 495 = some ((2, 42)) := rfl
theorem mS_3_498 : smT 3 498 = some ((2, 45)) := rfl
theorem mS_3_637 : smT 3 637 = some ((4, 415)) := rfl
theorem mS_3_640 : smT 3 640 = some ((4, 418)) := rfl
theorem mS_3_1051 : smT 3 1051 = some ((3, 201)) := rfl
theorem mS_3_1059 : smT 3 1059 = some ((3, 44)) := rfl
theorem mS_3_1062 : smT 3 1062 = some ((4, 422)) := rfl
theorem mS_3_1065 : smT 3 1065 = some ((4, 189)) := rfl
theorem mS_4_9 : smT 4 9 = some ((2, 43)) := rfl
theorem mS_4_38 : smT 4 38 = some ((2, 181)) := rfl
theorem mS_4_88 : smT 4 88 = some ((1, 416)) := rfl
theorem mS_4_92 : smT 4 92 = some ((2, 178)) := rfl
theorem mS_4_95 : smT 4 95 = some ((4, 417)) := rfl
theorem mS_4_240 : smT 4 240 = some ((5, 186)) := rfl
theorem mS_6_11 : smT 6 11 = some ((1, 171)) := rfl
theorem mS_6_48 : smT 6 48 = some ((1, 47)) := rfl
theorem mS_6_67 : smT 6 67 = some ((2, 46)) := rfl
theorem mS_6_71 : smT 6 71 = some ((2, 48)) := rfl
theorem mS_6_96 : smT 6 96 = some ((3, 420)) := rfl
theorem mS_6_111 : smT 6 111 = some ((3, 190)) := rfl
theorem mS_6_123 : smT 6 123 = some ((5, 202)) := rfl
theorem mS_6_126 : smT 6 126 = some ((3, 198)) := rfl
theorem mS_6_157 : smT 6 157 = some ((1, 426)) := rfl
theorem mS_6_161 : smT 6 161 = some ((1, 427)) := rfl
theorem mS_6_164 : smT 6 164 = some ((1, 425)) := rfl
theorem mS_6_173 : smT 6 173 = some ((3, 187)) := rfl
theorem mS_6_183 : smT 6 183 = some ((2, 181)) := rfl
theorem mS_6_224 : smT 6 224 = some ((2, 178)) := rfl
theorem mS_6_228 : smT 6 228 = some ((4, 419)) := rfl
theorem mS_6_232 : smT 6 232 = some ((4, 424)) := rfl
theorem mS_6_241 : smT 6 241 = some ((3, 421)) := rfl
theorem mS_6_244 : smT 6 244 = some ((4, 423)) := rfl
theorem mS_6_414 : smT 6 414 = some ((2, 43)) := rfl
theorem mS_6_419 : smT 6 419 = some ((3, 188)) := rfl
theorem mS_11_26 : smT 11 26 = some ((1, 170)) := rfl
theorem mS_11_108 : smT 11 108 = some ((2, 180)) := rfl
theorem mS_11_114 : smT 11 114 = some ((3, 177)) := rfl
theorem mS_11_125 : smT 11 125 = some ((5, 185)) := rfl
theorem mS_11_191 : smT 11 191 = some ((1, 183)) := rfl
theorem mS_11_197 : smT 11 197 = some ((3, 191)) := rfl
theorem mS_14_194 : smT 14 194 = some ((2, 178)) := rfl
theorem mS_14_201 : smT 14 201 = some ((2, 179)) := rfl
theorem mS_15_43 : smT 15 43 = some ((1, 264)) := rfl
theorem mS_15_53 : smT 15 53 = some ((1, 215)) := rfl
theorem mS_15_56 : smT 15 56 = some ((1, 219)) := rfl
theorem mS_15_59 : smT 15 59 = some ((1, 280)) := rfl
theorem mS_15_205 : smT 15 205 = some ((1, 273)) := rfl
theorem mS_15_224 : smT 15 224 = some ((1, 209)) := rfl
theorem mS_16_304 : smT 16 304 = some ((2, 181)) := rfl
theorem mS_16_339 : smT 16 339 = some ((3, 199)) := rfl
theorem mS_16_343 : smT 16 343 = some ((2, 200)) := rfl
theorem mS_18_59 : smT 18 59 = some ((1, 209)) := rfl
theorem mS_19_47 : smT 19 47 = some ((1, 265)) := rfl
theorem mS_19_60 : smT 19 60 = some ((4, 216)) := rfl
theorem mS_19_66 : smT 19 66 = some ((1, 217)) := rfl
theorem mS_20_122 : smT 20 122 = some ((1, 273)) := rfl
theorem mS_23_308 : smT 23 308 = some ((1, 523)) := rfl
theorem mS_23_311 : smT 23 311 = some ((1, 381)) := rfl
theorem mS_24_13 : smT 24 13 = some ((1, 266)) := rfl
theorem mS_24_17 : smT 24 17 = some ((1, 267)) := rfl
theorem mS_24_24 : smT 24 24 = some ((2, 268)) := rfl
theorem mS_24_33 : smT 24 33 = some ((2, 270)) := rfl
theorem mS_26_259 : smT 26 259 = some ((2, 269)) := rfl
theorem mS_30_91 : smT 30 91 = some ((3, 635)) := rfl
theorem mS_30_100 : smT 30 100 = some ((3, 636)) := rfl
theorem mS_30_103 : smT 30 103 = some ((4, 637)) := rfl
theorem mS_30_107 : smT 30 107 = some ((4, 638)) := rfl
theorem mS_30_110 : smT 30 110 = some ((4, 640)) := rfl
theorem mS_30_113 : smT 30 113 = some ((3, 642)) := rfl
theorem mS_30_116 : smT 30 116 = some ((3, 643)) := rfl
theorem mS_30_119 : smT 30 119 = some ((4, 644)) := rfl
theorem mS_31_151 : smT 31 151 = some ((1, 392)) := rfl
theorem mS_31_212 : smT 31 212 = some ((1, 366)) := rfl
theorem mS_32_131 : smT 32 131 = some ((1, 34)) := rfl
theorem mS_32_138 : smT 32 138 = some ((1, 36)) := rfl
theorem mS_32_219 : smT 32 219 = some ((1, 75)) := rfl
theorem mS_32_257 : smT 32 257 = some ((1, 65)) := rfl
theorem mS_33_122 : smT 33 122 = some ((1, 240)) := rfl
theorem mS_33_275 : smT 33 275 = some ((2, 379)) := rfl
theorem mS_33_279 : smT 33 279 = some ((1, 275)) := rfl
theorem mS_33_285 : smT 33 285 = some ((1, 65)) := rfl
theorem mS_33_292 : smT 33 292 = some ((1, 212)) := rfl
theorem mS_33_309 : smT 33 309 = some ((1, 381)) := rfl
theorem mS_34_73 : smT 34 73 = some ((1, 10)) := rfl
theorem mS_34_198 : smT 34 198 = some ((1, 65)) := rfl
theorem mS_34_317 : smT 34 317 = some ((2, 226)) := rfl
theorem mS_38_51 : smT 38 51 = some ((1, 275)) := rfl
theorem mS_38_55 : smT 38 55 = some ((0, 363)) := rfl
theorem mS_38_64 : smT 38 64 = some ((1, 366)) := rfl
theorem mS_39_9 : smT 39 9 = some ((1, 208)) := rfl
theorem mS_39_15 : smT 39 15 = some ((1, 210)) := rfl
theorem mS_39_20 : smT 39 20 = some ((1, 212)) := rfl
theorem mS_39_33 : smT 39 33 = some ((1, 207)) := rfl
theorem mS_39_37 : smT 39 37 = some ((1, 211)) := rfl
theorem mS_39_63 : smT 39 63 = some ((0, 363)) := rfl
theorem mS_39_72 : smT 39 72 = some ((1, 367)) := rfl
theorem mS_40_50 : smT 40 50 = some ((1, 214)) := rfl
theorem mS_40_56 : smT 40 56 = some ((1, 218)) := rfl
theorem mS_40_70 : smT 40 70 = some ((2, 328)) := rfl
theorem mS_40_74 : smT 40 74 = some ((0, 363)) := rfl
theorem mS_41_46 : smT 41 46 = some ((0, 363)) := rfl
theorem mS_42_45 : smT 42 45 = some ((0, 363)) := rfl
theorem mS_43_15 : smT 43 15 = some ((1, 366)) := rfl
theorem mS_43_19 : smT 43 19 = some ((1, 465)) := rfl
theorem mS_43_23 : smT 43 23 = some ((1, 532)) := rfl
theorem mS_43_26 : smT 43 26 = some ((1, 531)) := rfl
theorem mS_43_35 : smT 43 35 = some ((1, 367)) := rfl
theorem mS_43_39 : smT 43 39 = some ((1, 476)) := rfl
theorem mS_43_43 : smT 43 43 = some ((1, 475)) := rfl
theorem mS_43_50 : smT 43 50 = some ((1, 473)) := rfl
theorem mS_43_246 : smT 43 246 = some ((1, 410)) := rfl
theorem mS_43_250 : smT 43 250 = some ((1, 411)) := rfl
theorem mS_43_587 : smT 43 587 = some ((1, 472)) := rfl
theorem mS_43_592 : smT 43 592 = some ((1, 477)) := rfl
theorem mS_43_681 : smT 43 681 = some ((1, 513)) := rfl
theorem mS_43_723 : smT 43 723 = some ((1, 500)) := rfl
theorem mS_43_755 : smT 43 755 = some ((1, 540)) := rfl
theorem mS_43_759 : smT 43 759 = some ((1, 530)) := rfl
theorem mS_43_761 : smT 43 761 = some ((1, 533)) := rfl
theorem mS_43_766 : smT 43 766 = some ((2, 526)) := rfl
theorem mS_43_770 : smT 43 770 = some ((2, 527)) := rfl
theorem mS_43_773 : smT 43 773 = some ((2, 536)) := rfl
theorem mS_43_779 : smT 43 779 = some ((2, 539)) := rfl
theorem mS_43_785 : smT 43 785 = some ((1, 263)) := rfl
theorem mS_43_806 : smT 43 806 = some ((1, 521)) := rfl
theorem mS_43_809 : smT 43 809 = some ((1, 522)) := rfl
theorem mS_43_833 : smT 43 833 = some ((1, 544)) := rfl
theorem mS_43_835 : smT 43 835 = some ((1, 545)) := rfl
theorem mS_43_838 : smT 43 838 = some ((1, 547)) := rfl
theorem mS_43_846 : smT 43 846 = some ((2, 549)) := rfl
theorem mS_43_853 : smT 43 853 = some ((1, 550)) := rfl
theorem mS_43_982 : smT 43 982 = some ((1, 581)) := rfl
theorem mS_43_1020 : smT 43 1020 = some ((2, 592)) := rfl
theorem mS_44_9 : smT 44 9 = some ((1, 272)) := rfl
theorem mS_44_15 : smT 44 15 = some ((1, 65)) := rfl
theorem mS_44_20 : smT 44 20 = some ((1, 275)) := rfl
theorem mS_49_19 : smT 49 19 = some ((1, 65)) := rfl
theorem mS_50_41 : smT 50 41 = some ((1, 65)) := rfl
theorem mS_51_17 : smT 51 17 = some ((1, 271)) := rfl
theorem mS_51_31 : smT 51 31 = some ((1, 274)) := rfl
theorem mS_51_43 : smT 51 43 = some ((1, 262)) := rfl
theorem mS_51_48 : smT 51 48 = some ((1, 263)) := rfl
theorem mS_52_7 : smT 52 7 = some ((1, 263)) := rfl
theorem mS_52_13 : smT 52 13 = some ((1, 271)) := rfl
theorem mS_52_42 : smT 52 42 = some ((1, 262)) := rfl
theorem mS_52_45 : smT 52 45 = some ((1, 274)) := rfl
theorem mS_53_13 : smT 53 13 = some ((1, 218)) := rfl
theorem mS_53_19 : smT 53 19 = some ((1, 279)) := rfl
theorem mS_53_25 : smT 53 25 = some ((1, 65)) := rfl
theorem mS_53_61 : smT 53 61 = some ((1, 214)) := rfl
theorem mS_53_64 : smT 53 64 = some ((1, 272)) := rfl
theorem mS_54_44 : smT 54 44 = some ((1, 271)) := rfl
theorem mS_54_53 : smT 54 53 = some ((1, 274)) := rfl
theorem mS_55_22 : smT 55 22 = some ((1, 271)) := rfl
theorem mS_55_30 : smT 55 30 = some ((1, 274)) := rfl
theorem mS_56_25 : smT 56 25 = some ((1, 271)) := rfl
theorem mS_56_30 : smT 56 30 = some ((1, 274)) := rfl
theorem mS_57_16 : smT 57 16 = some ((2, 288)) := rfl
theorem mS_57_39 : smT 57 39 = some ((2, 294)) := rfl
theorem mS_63_36 : smT 63 36 = some ((1, 304)) := rfl
theorem mS_68_36 : smT 68 36 = some ((1, 299)) := rfl
def spT_0 : List (Nat × Nat × Nat) := [(1, (1, 9999))]
def spT_1 : List (Nat × Nat × Nat) := [(1, (1, 5)), (7, (2, 102)), (16, (5, 9))]
def spT_2 : List (Nat × Nat × Nat) := [(1, (1, 111)), (7, (2, 101)), (16, (5, 8))]
def spT_3 : List (Nat × Nat × Nat) := [(1, (1, 9999)), (489, (3, 194))]
def spT_6 : List (Nat × Nat × Nat) := [(19, (1, 172))]
def spT_7 : List (Nat × Nat × Nat) := [(7, (2, 100))]
def spT_8 : List (Nat × Nat × Nat) := [(1, (1, 110)), (7, (2, 100))]
def spT_9 : List (Nat × Nat × Nat) := [(7, (2, 108))]
def spT_10 : List (Nat × Nat × Nat) := [(1, (1, 110))]
def spT_11 : List (Nat × Nat × Nat) := [(3, (1, 9999))]
def spT_12 : List (Nat × Nat × Nat) := [(1, (2, 169)), (50, (2, 174)), (137, (2, 193)), (343, (1, 197))]
def spT_13 : List (Nat × Nat × Nat) := [(1, (1, 110)), (7, (2, 100))]
def spT_17 : List (Nat × Nat × Nat) := [(7, (2, 100))]
def spT_21 : List (Nat × Nat × Nat) := [(7, (2, 100))]
def spT_27 : List (Nat × Nat × Nat) := [(1, (1, 110))]
def spT_28 : List (Nat × Nat × Nat) := [(1, (1, 110))]
def spT_30 : List (Nat × Nat × Nat) := [(43, (1, 0)), (46, (1, 400))]
def spT_31 : List (Nat × Nat × Nat) := [(1, (1, 9999)), (9, (1, 2)), (18, (1, 3)), (25, (3, 4)), (129, (1, 390)), (182, (1, 365)), (190, (1, 364))]
def spT_32 : List (Nat × Nat × Nat) := [(3, (1, 9999))]
def spT_33 : List (Nat × Nat × Nat) := [(3, (1, 9999)), (329, (1, 364)), (332, (1, 390))]
def spT_34 : List (Nat × Nat × Nat) := [(3, (1, 9999)), (11, (1, 6)), (89, (1, 11)), (92, (1, 14)), (95, (1, 15)), (98, (1, 16)), (101, (1, 17)), (114, (2, 168)), (310, (3, 223)), (353, (5, 115)), (361, (2, 122)), (387, (2, 135)), (398, (2, 155)), (415, (2, 138)), (418, (2, 139)), (421, (2, 140)), (424, (3, 141)), (429, (3, 143)), (434, (3, 145)), (437, (3, 146)), (440, (3, 148)), (443, (4, 149)), (448, (4, 150)), (451, (4, 153)), (454, (4, 154)), (459, (4, 157)), (465, (3, 165))]
def spT_35 : List (Nat × Nat × Nat) := [(1, (5, 7))]
def spT_36 : List (Nat × Nat × Nat) := [(1, (1, 9999)), (9, (1, 364))]
def spT_37 : List (Nat × Nat × Nat) := [(1, (1, 13))]
def spT_38 : List (Nat × Nat × Nat) := [(3, (1, 12)), (63, (1, 365))]
def spT_39 : List (Nat × Nat × Nat) := [(3, (1, 12)), (71, (1, 365))]
def spT_40 : List (Nat × Nat × Nat) := [(3, (1, 12)), (82, (1, 365))]
def spT_41 : List (Nat × Nat × Nat) := [(3, (1, 13)), (52, (1, 365))]
def spT_42 : List (Nat × Nat × Nat) := [(3, (1, 13)), (53, (1, 365))]
def spT_43 : List (Nat × Nat × Nat) := [(61, (1, 9999))]
def spT_45 : List (Nat × Nat × Nat) := [(5, (1, 9999))]
def spT_46 : List (Nat × Nat × Nat) := [(1, (1, 116))]
def spT_47 : List (Nat × Nat × Nat) := [(3, (1, 116)), (60, (2, 323))]
def spT_48 : List (Nat × Nat × Nat) := [(1, (1, 116))]
def spT_49 : List (Nat × Nat × Nat) := [(1, (2, 136))]
def spT_50 : List (Nat × Nat × Nat) := [(1, (2, 136))]
def spT_51 : List (Nat × Nat × Nat) := [(1, (2, 138)), (7, (1, 257)), (51, (3, 352))]
def spT_52 : List (Nat × Nat × Nat) := [(1, (2, 136))]
def spT_53 : List (Nat × Nat × Nat) := [(1, (2, 136))]
def spT_54 : List (Nat × Nat × Nat) := [(3, (1, 116))]
def spT_55 : List (Nat × Nat × Nat) := [(1, (3, 144))]
def spT_56 : List (Nat × Nat × Nat) := [(1, (3, 144))]
def spT_57 : List (Nat × Nat × Nat) := [(1, (3, 144))]
def spT_58 : List (Nat × Nat × Nat) := [(1, (3, 147))]
def spT_59 : List (Nat × Nat × Nat) := [(1, (3, 147))]
def spT_60 : List (Nat × Nat × Nat) := [(1, (3, 144))]
def spT_61 : List (Nat × Nat × Nat) := [(1, (1, 116)), (16, (2, 323))]
def spT_62 : List (Nat × Nat × Nat) := [(3, (1, 152))]
def spT_63 : List (Nat × Nat × Nat) := [(1, (3, 151))]
def spT_64 : List (Nat × Nat × Nat) := [(1, (3, 151))]
def spT_65 : List (Nat × Nat × Nat) := [(1, (3, 151))]
def spT_66 : List (Nat × Nat × Nat) := [(1, (1, 152))]
def spT_67 : List (Nat × Nat × Nat) := [(1, (1, 116)), (70, (2, 323))]
def spT_68 : List (Nat × Nat × Nat) := [(1, (1, 152))]
def spT_69 : List (Nat × Nat × Nat) := [(1, (1, 9999))]
def spTL : List (Nat × List (Nat × Nat × Nat)) := [(0, spT_0), (1, spT_1), (2, spT_2), (3, spT_3), (6, spT_6), (7, spT_7), (8, spT_8), (9, spT_9), (10, spT_10), (11, spT_11), (12, spT_12), (13, spT_13), (17, spT_17), (21, spT_21), (27, spT_27), (28, spT_28), (30, spT_30), (31, spT_31), (32, spT_32), (33, spT_33), (34, spT_34), (35, spT_35), (36, spT_36), (37, spT_37), (38, spT_38), (39, spT_39), (40, spT_40), (41, spT_41), (42, spT_42), (43, spT_43), (45, spT_45), (46, spT_46), (47, spT_47), (48, spT_48), (49, spT_49), (50, spT_50), (51, spT_51), (52, spT_52), (53, spT_53), (54, spT_54), (55, spT_55), (56, spT_56), (57, spT_57), (58, spT_58), (59, spT_59), (60, spT_60), (61, spT_61), (62, spT_62), (63, spT_63), (64, spT_64), (65, spT_65), (66, spT_66), (67, spT_67), (68, spT_68), (69, spT_69)]
def spT (o i : Nat) : Option (Nat × Nat) := tb spTL o i
theorem mP_0_1 : spT 0 1 = some ((1, 9999)) := rfl
theorem mP_1_1 : spT 1 1 = some ((1, 5)) := rfl
theorem mP_1_7 : spT 1 7 = some ((2, 102)) := rfl
theorem mP_1_16 : spT 1 16 = some ((5, 9)) := rfl
theorem mP_2_1 : spT 2 1 = some ((1, 111)) := rfl
theorem mP_2_7 : spT 2 7 = some ((2, 101)) := rfl
theorem mP_2_16 : spT 2 16 = some ((5, 8)) := rfl
theorem mP_3_1 : spT 3 1 = some ((1, 9999)) := rfl
theorem mP_3_489 : spT 3 489 = some ((3, 194)) := rfl
theorem mP_6_19 : spT 6 19 = some ((1, 172)) := rfl
theorem mP_7_7 : spT 7 7 = some ((2, 100)) := rfl
theorem mP_8_1 : spT 8 1 = some ((1, 110)) := rfl
theorem mP_8_7 : spT 8 7 = some ((2, 100)) := rfl
theorem mP_9_7 : spT 9 7 = some ((2, 108)) := rfl
theorem mP_10_1 : spT 10 1 = some ((1, 110)) := rfl
theorem mP_11_3 : spT 11 3 = some ((1, 9999)) := rfl
theorem mP_12_1 : spT 12 1 = some ((2, 169)) := rfl
theorem mP_12_50 : spT 12 50 = some ((2, 174)) := rfl
theorem mP_12_137 : spT 12 137 = some ((2, 193)) := rfl
theorem mP_12_343 : spT 12 343 = some ((1, 197)) := rfl
theorem mP_13_1 : spT 13 1 = some ((1, 110)) := rfl
theorem mP_13_7 : spT 13 7 = some ((2, 100)) := rfl
theorem mP_17_7 : spT 17 7 = some ((2, 100)) := rfl
theorem mP_21_7 : spT 21 7 = some ((2, 100)) := rfl
theorem mP_27_1 : spT 27 1 = some ((1, 110)) := rfl
theorem mP_28_1 : spT 28 1 = some ((1, 110)) := rfl
theorem mP_30_43 : spT 30 43 = some ((1, 0)) := rfl
theorem mP_30_46 : spT 30 46 = some ((1, 400)) := rfl
theorem mP_31_1 : spT 31 1 = some ((1, 9999)) := rfl
theorem mP_31_9 : spT 31 9 = some ((1, 2)) := rfl
theorem mP_31_18 : spT 31 18 = some ((1, 3)) := rfl
theorem mP_31_25 : spT 31 25 = some ((3, 4)) := rfl
theorem mP_31_129 : spT 31 129 = some ((1, 390)) := rfl
theorem mP_31_182 : spT 31 182 = some ((1, 365)) := rfl
theorem mP_31_190 : spT 31 190 = some ((1, 364)) := rfl
theorem mP_32_3 : spT 32 3 = some ((1, 9999)) := rfl
theorem mP_33_3 : spT 33 3 = some ((1, 9999)) := rfl
theorem mP_33_329 : spT 33 329 = some ((1, 364)) := rfl
theorem mP_33_332 : spT 33 332 = some ((1, 390)) := rfl
theorem mP_34_3 : spT 34 3 = some ((1, 9999)) := rfl
theorem mP_34_11 : spT 34 11 = some ((1, 6)) := rfl
theorem mP_34_89 : spT 34 89 = some ((1, 11)) := rfl
theorem mP_34_92 : spT 34 92 = some ((1, 14)) := rfl
theorem mP_34_95 : spT 34 95 = some ((1, 15)) := rfl
theorem mP_34_98 : spT 34 98 = some ((1, 16)) := rfl
theorem mP_34_101 : spT 34 101 = some ((1, 17)) := rfl
theorem mP_34_114 : spT 34 114 = some ((2, 168)) := rfl
theorem mP_34_310 : spT 34 310 = some ((3, 223)) := rfl
theorem mP_34_353 : spT 34 353 = some ((5, 115)) := rfl
theorem mP_34_361 : spT 34 361 = some ((2, 122)) := rfl
theorem mP_34_387 : spT 34 387 = some ((2, 135)) := rfl
theorem mP_34_398 : spT 34 398 = some ((2, 155)) := rfl
theorem mP_34_415 : spT 34 415 = some ((2, 138)) := rfl
theorem mP_34_418 : spT 34 418 = some ((2, 139)) := rfl
theorem mP_34_421 : spT 34 421 = some ((2, 140)) := rfl
theorem mP_34_424 : spT 34 424 = some ((3, 141)) := rfl
theorem mP_34_429 : spT 34 429 = some ((3, 143)) := rfl
theorem mP_34_434 : spT 34 434 = some ((3, 145)) := rfl
theorem mP_34_437 : spT 34 437 = some ((3, 146)) := rfl
theorem mP_34_440 : spT 34 440 = some ((3, 148)) := rfl
theorem mP_34_443 : spT 34 443 = some ((4, 149)) := rfl
theorem mP_34_448 : spT 34 448 = some ((4, 150)) := rfl
theorem mP_34_451 : spT 34 451 = some ((4, 153)) := rfl
theorem mP_34_454 : spT 34 454 = some ((4, 154)) := rfl
theorem mP_34_459 : spT 34 459 = some ((4, 157)) := rfl
theorem mP_34_465 : spT 34 465 = some ((3, 165)) := rfl
theorem mP_35_1 : spT 35 1 = some ((5, 7)) := rfl
theorem mP_36_1 : spT 36 1 = some ((1, 9999)) := rfl
theorem mP_36_9 : spT 36 9 = some ((1, 364)) := rfl
theorem mP_37_1 : spT 37 1 = some ((1, 13)) := rfl
theorem mP_38_3 : spT 38 3 = some ((1, 12)) := rfl
theorem mP_38_63 : spT 38 63 = some ((1, 365)) := rfl
theorem mP_39_3 : spT 39 3 = some ((1, 12)) := rfl
theorem mP_39_71 : spT 39 71 = some ((1, 365)) := rfl
theorem mP_40_3 : spT 40 3 = some ((1, 12)) := rfl
theorem mP_40_82 : spT 40 82 = some ((1, 365)) := rfl
theorem mP_41_3 : spT 41 3 = some ((1, 13)) := rfl
theorem mP_41_52 : spT 41 52 = some ((1, 365)) := rfl
theorem mP_42_3 : spT 42 3 = some ((1, 13)) := rfl
theorem mP_42_53 : spT 42 53 = some ((1, 365)) := rfl
theorem mP_43_61 : spT 43 61 = some ((1, 9999)) := rfl
theorem mP_45_5 : spT 45 5 = some ((1, 9999)) := rfl
theorem mP_46_1 : spT 46 1 = some ((1, 116)) := rfl
theorem mP_47_3 : spT 47 3 = some ((1, 116)) := rfl
theorem mP_47_60 : spT 47 60 = some ((2, 323)) := rfl
theorem mP_48_1 : spT 48 1 = some ((1, 116)) := rfl
theorem mP_49_1 : spT 49 1 = some ((2, 136)) := rfl
theorem mP_50_1 : spT 50 1 = some ((2, 136)) := rfl
theorem mP_51_1 : spT 51 1 = some ((2, 138)) := rfl
theorem mP_51_7 : spT 51 7 = some ((1, 257)) := rfl
theorem mP_51_51 : spT 51 51 = some ((3, 352)) := rfl
theorem mP_52_1 : spT 52 1 = some ((2, 136)) := rfl
theorem mP_53_1 : spT 53 1 = some ((2, 136)) := rfl
theorem mP_54_3 : spT 54 3 = some ((1, 116)) := rfl
theorem mP_55_1 : spT 55 1 = some ((3, 144)) := rfl
theorem mP_56_1 : spT 56 1 = some ((3, 144)) := rfl
theorem mP_57_1 : spT 57 1 = some ((3, 144)) := rfl
theorem mP_58_1 : spT 58 1 = some ((3, 147)) := rfl
theorem mP_59_1 : spT 59 1 = some ((3, 147)) := rfl
theorem mP_60_1 : spT 60 1 = some ((3, 144)) := rfl
theorem mP_61_1 : spT 61 1 = some ((1, 116)) := rfl
theorem mP_61_16 : spT 61 16 = some ((2, 323)) := rfl
theorem mP_62_3 : spT 62 3 = some ((1, 152)) := rfl
theorem mP_63_1 : spT 63 1 = some ((3, 151)) := rfl
theorem mP_64_1 : spT 64 1 = some ((3, 151)) := rfl
theorem mP_65_1 : spT 65 1 = some ((3, 151)) := rfl
theorem mP_66_1 : spT 66 1 = some ((1, 152)) := rfl
theorem mP_67_1 : spT 67 1 = some ((1, 116)) := rfl
theorem mP_67_70 : spT 67 70 = some ((2, 323)) := rfl
theorem mP_68_1 : spT 68 1 = some ((1, 152)) := rfl
theorem mP_69_1 : spT 69 1 = some ((1, 9999)) := rfl
def vmT_3 : List (Nat × Nat × List (Nat × Nat)) := [(335, (1, [(13, 39), (302, 39)])), (492, (1, [(13, 41), (302, 41)])), (505, (1, [(13, 38), (302, 38)])), (549, (1, [(33, 196)])), (552, (1, [(33, 195)])), (633, (3, [(13, 414), (302, 414)])), (1047, (1, [(33, 182)]))]
def vmT_11 : List (Nat × Nat × List (Nat × Nat)) := [(83, (1, [(33, 182)])), (100, (2, [(33, 175)])), (104, (2, [(33, 176)])), (195, (1, [(33, 184)]))]
def vmT_30 : List (Nat × Nat × List (Nat × Nat)) := [(7, (2, [(0, 388)])), (15, (2, [(0, 391)])), (18, (3, [(0, 394)])), (26, (3, [(0, 639)])), (30, (3, [(0, 641)])), (33, (2, [(0, 396)])), (36, (2, [(0, 397)])), (40, (3, [(0, 398)])), (47, (6, [(0, 20)])), (51, (6, [(41, 402)])), (52, (2, [(0, 21)])), (55, (2, [(41, 405)])), (56, (2, [(0, 229)])), (59, (2, [(41, 514)])), (60, (1, [(0, 230)])), (64, (1, [(41, 404)])), (65, (1, [(0, 232)])), (68, (1, [(41, 515)])), (69, (2, [(0, 360)])), (73, (2, [(41, 575)])), (74, (2, [(0, 368)])), (77, (2, [(41, 577)])), (78, (1, [(0, 384)])), (82, (1, [(41, 574)])), (83, (2, [(0, 385)])), (86, (2, [(41, 586)])), (87, (2, [(0, 387)])), (90, (2, [(41, 587)])), (96, (2, [(41, 588)])), (97, (1, [(41, 399)])), (102, (2, [(41, 591)])), (106, (3, [(41, 593)])), (109, (3, [(41, 596)])), (112, (3, [(41, 597)])), (115, (2, [(41, 598)])), (118, (2, [(41, 599)])), (121, (3, [(41, 600)]))]
def vmT_31 : List (Nat × Nat × List (Nat × Nat)) := [(39, (1, [(2, 18)])), (52, (1, [(2, 22)])), (56, (2, [(1, 31)])), (60, (1, [(1, 52)])), (63, (1, [(1, 53)])), (66, (1, [(0, 601)])), (69, (1, [(1, 54)])), (71, (1, [(3, 92)])), (82, (1, [(3, 231)])), (83, (1, [(2, 621)])), (86, (2, [(2, 361)])), (90, (2, [(2, 369)])), (114, (1, [(2, 386)])), (134, (2, [(0, 389)])), (138, (1, [(7, 130), (8, 131), (9, 133), (10, 132), (11, 129)])), (155, (2, [(7, 629), (8, 630), (9, 632), (10, 631), (11, 628)])), (163, (2, [(0, 395)])), (195, (2, [(2, 634)])), (218, (3, [(2, 645)]))]
def vmT_32 : List (Nat × Nat × List (Nat × Nat)) := [(118, (1, [(1, 32)])), (127, (2, [(1, 33)])), (135, (1, [(1, 35)])), (141, (1, [(1, 49)])), (144, (1, [(1, 50)])), (147, (2, [(1, 51)])), (150, (4, [(1, 37)])), (157, (1, [(13, 38), (302, 38)])), (161, (2, [(13, 40), (302, 40)])), (181, (2, [(1, 56)])), (185, (2, [(1, 60)])), (188, (1, [(1, 57)])), (191, (2, [(1, 59)])), (194, (2, [(1, 73)])), (203, (1, [(1, 55)])), (206, (2, [(1, 58)])), (211, (3, [(1, 61)])), (214, (1, [(1, 62)])), (216, (2, [(1, 74)])), (222, (1, [(1, 69)])), (225, (2, [(1, 66)])), (229, (1, [(1, 76)])), (231, (1, [(1, 77)])), (234, (1, [(1, 80)])), (236, (1, [(1, 68)])), (239, (1, [(1, 81)])), (242, (2, [(1, 78)])), (245, (3, [(1, 79)])), (248, (1, [(1, 63)])), (251, (1, [(1, 67)])), (254, (1, [(1, 64)])), (263, (1, [(1, 70)])), (266, (1, [(1, 71)])), (269, (1, [(1, 72)])), (274, (1, [(1, 82)])), (277, (1, [(1, 83)])), (279, (1, [(1, 84)])), (282, (1, [(1, 85)])), (285, (1, [(1, 86)])), (287, (1, [(1, 91)])), (290, (1, [(1, 87)])), (293, (1, [(1, 88)])), (296, (1, [(1, 89)])), (299, (2, [(1, 90)]))]
def vmT_33 : List (Nat × Nat × List (Nat × Nat)) := [(78, (1, [(2, 19)])), (119, (1, [(7, 236), (8, 237), (9, 239), (10, 238), (11, 235)])), (128, (1, [(7, 622), (8, 623), (9, 624)])), (132, (1, [(7, 244), (8, 245), (9, 246)])), (141, (1, [(2, 234)])), (144, (2, [(2, 625)])), (148, (2, [(2, 359)])), (153, (2, [(15, 250), (16, 254), (17, 255), (18, 255), (19, 255), (20, 255), (21, 255), (22, 253), (23, 253), (24, 253), (25, 253), (26, 253), (27, 247), (28, 247), (29, 247), (30, 256), (31, 249), (32, 248)])), (157, (3, [(15, 307), (16, 307), (17, 307), (18, 307), (19, 307), (20, 307), (21, 307), (22, 307), (23, 307), (24, 307), (25, 307), (26, 307), (27, 307), (28, 307), (29, 307), (30, 307), (31, 307), (32, 307)])), (161, (2, [(15, 323), (16, 342), (17, 323), (18, 323), (19, 323), (20, 323), (21, 323), (22, 332), (23, 332), (24, 332), (25, 332), (26, 332), (27, 308), (28, 308), (29, 308), (30, 322), (31, 331), (32, 322)])), (168, (1, [(2, 22)])), (171, (1, [(2, 233)])), (185, (2, [(7, 629), (8, 630), (9, 632), (10, 631), (11, 628)])), (191, (3, [(7, 24)])), (197, (3, [(8, 25)])), (202, (4, [(9, 26)])), (207, (3, [(10, 28)])), (209, (4, [(11, 29)])), (212, (2, [(2, 362)])), (227, (2, [(2, 23)])), (232, (1, [(2, 633)])), (235, (2, [(2, 383)])), (239, (1, [(2, 370)])), (247, (2, [(7, 372), (8, 373), (9, 375), (10, 374), (11, 371)])), (251, (1, [(2, 376)])), (254, (2, [(2, 378)])), (258, (2, [(2, 634)])), (262, (1, [(2, 377)])), (273, (1, [(7, 622)])), (274, (1, [(7, 244)])), (290, (1, [(8, 623)])), (291, (1, [(8, 245)])), (295, (1, [(9, 624)])), (296, (2, [(9, 315)])), (300, (2, [(9, 380)])), (304, (1, [(11, 627)])), (306, (2, [(11, 349)])), (314, (2, [(11, 382)]))]
def vmT_34 : List (Nat × Nat × List (Nat × Nat)) := [(102, (2, [(1, 97)])), (108, (4, [(1, 37)])), (121, (2, [(33, 173)])), (125, (1, [(33, 192)])), (129, (2, [(3, 96)])), (137, (2, [(4, 98)])), (167, (3, [(3, 93)])), (171, (4, [(3, 103)])), (175, (4, [(3, 112)])), (178, (4, [(3, 166)])), (181, (2, [(3, 94)])), (184, (2, [(3, 95)])), (187, (3, [(3, 602)])), (191, (3, [(3, 603)])), (208, (2, [(3, 104)])), (212, (2, [(3, 105)])), (216, (2, [(3, 106)])), (218, (2, [(3, 604)])), (230, (4, [(3, 167)])), (238, (2, [(3, 204)])), (241, (2, [(3, 205)])), (244, (2, [(3, 607)])), (248, (3, [(7, 609), (8, 610), (9, 612), (10, 611), (11, 608)])), (252, (3, [(3, 221)])), (254, (2, [(3, 159)])), (258, (2, [(3, 605)])), (264, (2, [(3, 224)])), (267, (4, [(3, 619)])), (271, (6, [(3, 620)])), (278, (1, [(3, 227)])), (281, (1, [(3, 228)])), (284, (1, [(7, 130), (8, 131), (9, 133), (10, 132), (11, 129)])), (291, (2, [(3, 613)])), (295, (2, [(3, 614)])), (298, (2, [(3, 615)])), (301, (2, [(3, 616)])), (304, (2, [(3, 617)])), (307, (2, [(3, 618)])), (327, (1, [(15, 126), (16, 128), (17, 134), (18, 134), (19, 134), (20, 134), (21, 134), (22, 127), (23, 127), (24, 127), (25, 127), (26, 127), (27, 124), (28, 124), (29, 124), (30, 124), (31, 125), (32, 124)])), (348, (1, [(3, 114)])), (356, (2, [(3, 117)])), (364, (2, [(3, 113)])), (368, (2, [(3, 118)])), (372, (2, [(3, 119)])), (375, (2, [(3, 120)])), (378, (2, [(3, 121)])), (381, (1, [(3, 123)])), (389, (2, [(3, 137)])), (392, (4, [(3, 142)])), (399, (4, [(3, 156)])), (403, (3, [(3, 158)])), (406, (3, [(3, 163)])), (410, (3, [(3, 164)])), (468, (2, [(3, 160)])), (471, (2, [(3, 161)])), (474, (2, [(3, 606)])), (477, (1, [(3, 162)]))]
def vmT_38 : List (Nat × Nat × List (Nat × Nat)) := [(13, (2, [(4, 98)])), (19, (3, [(7, 24)]))]
def vmT_39 : List (Nat × Nat × List (Nat × Nat)) := [(27, (2, [(4, 98)])), (40, (3, [(8, 25)]))]
def vmT_40 : List (Nat × Nat × List (Nat × Nat)) := [(11, (3, [(9, 213)])), (21, (2, [(4, 98)])), (27, (1, [(9, 27)])), (30, (2, [(9, 220)]))]
def vmT_41 : List (Nat × Nat × List (Nat × Nat)) := [(13, (2, [(4, 98)])), (19, (3, [(10, 28)])), (42, (1, [(10, 238)]))]
def vmT_42 : List (Nat × Nat × List (Nat × Nat)) := [(13, (2, [(4, 98)])), (19, (1, [(11, 30)]))]
def vmT_43 : List (Nat × Nat × List (Nat × Nat)) := [(225, (1, [(41, 401)])), (231, (2, [(41, 403)])), (238, (2, [(41, 408)])), (242, (3, [(41, 409)])), (253, (3, [(41, 412)])), (259, (2, [(13, 413), (302, 413)])), (266, (1, [(13, 38), (302, 38)])), (270, (2, [(13, 40), (302, 40)])), (283, (1, [(41, 432)])), (286, (2, [(41, 430)])), (290, (1, [(41, 431)])), (296, (1, [(41, 436)])), (300, (1, [(41, 437)])), (305, (2, [(41, 429)])), (310, (1, [(41, 438)])), (319, (1, [(41, 439)])), (324, (2, [(41, 434)])), (328, (1, [(41, 435)])), (333, (2, [(41, 440)])), (341, (2, [(41, 433)])), (348, (1, [(41, 444)])), (357, (1, [(41, 443)])), (360, (1, [(41, 445)])), (379, (1, [(41, 449)])), (388, (1, [(41, 448)])), (393, (1, [(41, 450)])), (408, (1, [(41, 451)])), (411, (1, [(41, 455)])), (416, (1, [(41, 452)])), (419, (1, [(41, 453)])), (422, (1, [(41, 447)])), (436, (2, [(41, 454)])), (457, (1, [(41, 441)])), (462, (1, [(41, 442)])), (473, (1, [(41, 446)])), (533, (2, [(41, 460)])), (537, (2, [(41, 459)])), (540, (1, [(41, 468)])), (543, (1, [(41, 469)])), (546, (2, [(41, 461)])), (549, (1, [(41, 467)])), (552, (1, [(41, 464)])), (568, (1, [(41, 463)])), (571, (1, [(41, 466)])), (574, (2, [(41, 470)])), (595, (2, [(41, 478)])), (598, (4, [(41, 479)])), (604, (4, [(41, 481)])), (608, (3, [(41, 458)])), (611, (1, [(41, 462)])), (614, (2, [(41, 471)])), (617, (2, [(41, 474)])), (620, (2, [(41, 480)])), (623, (1, [(41, 486)])), (625, (1, [(41, 457)])), (628, (1, [(41, 482)])), (630, (1, [(41, 483)])), (632, (1, [(41, 484)])), (634, (1, [(41, 485)])), (636, (1, [(41, 487)])), (638, (1, [(41, 488)])), (640, (2, [(41, 489)])), (644, (1, [(41, 406)])), (647, (1, [(41, 407)])), (650, (1, [(41, 428)])), (653, (2, [(41, 456)])), (662, (6, [(41, 499)])), (666, (1, [(41, 490)])), (672, (2, [(41, 511)])), (678, (2, [(41, 512)])), (684, (1, [(41, 491)])), (687, (6, [(41, 507)])), (690, (1, [(41, 492)])), (693, (1, [(41, 493)])), (696, (1, [(41, 494)])), (698, (1, [(41, 508)])), (701, (2, [(41, 509)])), (707, (2, [(41, 510)])), (710, (1, [(41, 495)])), (713, (1, [(41, 496)])), (716, (1, [(41, 497)])), (719, (2, [(41, 498)])), (729, (3, [(41, 501)])), (732, (2, [(41, 502)])), (735, (1, [(41, 503)])), (738, (1, [(41, 504)])), (741, (2, [(41, 505)])), (744, (4, [(41, 506)])), (763, (3, [(41, 525)])), (775, (5, [(41, 537)])), (782, (3, [(41, 541)])), (797, (2, [(41, 520)])), (800, (2, [(41, 524)])), (803, (2, [(41, 546)])), (812, (6, [(41, 528)])), (816, (5, [(41, 529)])), (819, (5, [(41, 534)])), (821, (5, [(41, 535)])), (824, (5, [(41, 538)])), (827, (3, [(41, 542)])), (830, (3, [(41, 543)])), (842, (4, [(41, 548)])), (849, (3, [(41, 551)])), (857, (3, [(41, 519)])), (864, (2, [(41, 552)])), (867, (4, [(41, 558)])), (871, (2, [(41, 553)])), (874, (2, [(41, 556)])), (877, (2, [(41, 561)])), (880, (2, [(41, 564)])), (883, (2, [(41, 570)])), (886, (4, [(41, 557)])), (889, (4, [(41, 560)])), (892, (3, [(41, 559)])), (896, (2, [(41, 562)])), (898, (4, [(41, 563)])), (901, (3, [(41, 567)])), (905, (3, [(41, 555)])), (908, (4, [(41, 565)])), (911, (4, [(41, 566)])), (914, (3, [(41, 568)])), (917, (3, [(41, 569)])), (920, (4, [(41, 571)])), (923, (4, [(41, 554)])), (947, (3, [(41, 518)])), (950, (1, [(41, 572)])), (955, (1, [(41, 516)])), (958, (1, [(41, 517)])), (961, (1, [(41, 573)])), (979, (1, [(41, 576)])), (987, (2, [(41, 583)])), (990, (1, [(41, 579)])), (995, (2, [(41, 580)])), (998, (2, [(41, 582)])), (1001, (1, [(41, 584)])), (1004, (1, [(41, 585)])), (1011, (1, [(41, 578)])), (1014, (2, [(41, 589)])), (1017, (2, [(41, 590)])), (1026, (3, [(41, 595)])), (1030, (7, [(41, 594)]))]
def vmT_45 : List (Nat × Nat × List (Nat × Nat)) := [(34, (2, [(15, 358), (16, 344), (17, 350), (18, 350), (19, 350), (20, 350), (21, 350), (22, 358), (23, 358), (24, 358), (25, 358), (26, 358), (27, 358), (28, 358), (29, 358), (30, 357), (31, 343), (32, 324)])), (54, (1, [(15, 126), (16, 128), (17, 134), (18, 134), (19, 134), (20, 134), (21, 134), (22, 127), (23, 127), (24, 127), (25, 127), (26, 127), (27, 124), (28, 124), (29, 124), (30, 124), (31, 125), (32, 124)])), (58, (3, [(15, 311), (16, 311), (17, 311), (18, 311), (19, 311), (20, 311), (21, 311), (22, 311), (23, 311), (24, 311), (25, 311), (26, 311), (27, 311), (28, 311), (29, 311), (30, 311), (31, 311), (32, 311)])), (62, (3, [(15, 307), (16, 307), (17, 307), (18, 307), (19, 307), (20, 307), (21, 307), (22, 307), (23, 307), (24, 307), (25, 307), (26, 307), (27, 307), (28, 307), (29, 307), (30, 307), (31, 307), (32, 307)])), (66, (2, [(15, 312), (16, 312), (17, 312), (18, 312), (19, 312), (20, 312), (21, 312), (22, 312), (23, 312), (24, 312), (25, 312), (26, 312), (27, 312), (28, 312), (29, 312), (30, 312), (31, 312), (32, 312)]))]
def vmT_46 : List (Nat × Nat × List (Nat × Nat)) := [(24, (3, [(15, 251)])), (28, (3, [(15, 252)]))]
def vmT_47 : List (Nat × Nat × List (Nat × Nat)) := [(15, (1, [(7, 130), (8, 131), (9, 133), (10, 132), (11, 129)])), (23, (1, [(7, 622), (8, 623), (9, 624)])), (27, (1, [(7, 244), (8, 245), (9, 246)])), (30, (3, [(16, 251)])), (36, (2, [(10, 626)])), (40, (3, [(16, 252)])), (46, (1, [(11, 627)])), (52, (1, [(16, 128)])), (69, (3, [(7, 345), (8, 346), (9, 347)])), (72, (3, [(10, 348)])), (74, (2, [(11, 349)])), (79, (2, [(9, 315)])), (83, (2, [(9, 327)]))]
def vmT_48 : List (Nat × Nat × List (Nat × Nat)) := [(13, (2, [(15, 250), (16, 254), (17, 255), (18, 255), (19, 255), (20, 255), (21, 255), (22, 253), (23, 253), (24, 253), (25, 253), (26, 253), (27, 247), (28, 247), (29, 247), (30, 256), (31, 249), (32, 248)])), (17, (1, [(17, 260), (18, 257), (19, 276), (20, 261), (21, 277)])), (20, (1, [(17, 353), (18, 351), (19, 355), (20, 354), (21, 356)])), (23, (2, [(15, 323), (16, 342), (17, 323), (18, 323), (19, 323), (20, 323), (21, 323), (22, 332), (23, 332), (24, 332), (25, 332), (26, 332), (27, 308), (28, 308), (29, 308), (30, 322), (31, 331), (32, 322)]))]
def vmT_49 : List (Nat × Nat × List (Nat × Nat)) := [(28, (3, [(17, 251)])), (34, (3, [(15, 311), (16, 311), (17, 311), (18, 311), (19, 311), (20, 311), (21, 311), (22, 311), (23, 311), (24, 311), (25, 311), (26, 311), (27, 311), (28, 311), (29, 311), (30, 311), (31, 311), (32, 311)]))]
def vmT_50 : List (Nat × Nat × List (Nat × Nat)) := [(22, (3, [(18, 251), (19, 251)])), (38, (3, [(18, 352), (19, 352)])), (46, (3, [(15, 311), (16, 311), (17, 311), (18, 311), (19, 311), (20, 311), (21, 311), (22, 311), (23, 311), (24, 311), (25, 311), (26, 311), (27, 311), (28, 311), (29, 311), (30, 311), (31, 311), (32, 311)]))]
def vmT_51 : List (Nat × Nat × List (Nat × Nat)) := [(33, (3, [(19, 251)]))]
def vmT_52 : List (Nat × Nat × List (Nat × Nat)) := [(47, (3, [(20, 251)])), (53, (3, [(15, 311), (16, 311), (17, 311), (18, 311), (19, 311), (20, 311), (21, 311), (22, 311), (23, 311), (24, 311), (25, 311), (26, 311), (27, 311), (28, 311), (29, 311), (30, 311), (31, 311), (32, 311)]))]
def vmT_53 : List (Nat × Nat × List (Nat × Nat)) := [(40, (2, [(21, 278)])), (46, (3, [(21, 251)])), (55, (3, [(15, 311), (16, 311), (17, 311), (18, 311), (19, 311), (20, 311), (21, 311), (22, 311), (23, 311), (24, 311), (25, 311), (26, 311), (27, 311), (28, 311), (29, 311), (30, 311), (31, 311), (32, 311)]))]
def vmT_54 : List (Nat × Nat × List (Nat × Nat)) := [(18, (2, [(15, 250), (16, 254), (17, 255), (18, 255), (19, 255), (20, 255), (21, 255), (22, 253), (23, 253), (24, 253), (25, 253), (26, 253), (27, 247), (28, 247), (29, 247), (30, 256), (31, 249), (32, 248)])), (22, (1, [(22, 295), (23, 283), (24, 286), (25, 292), (26, 284)])), (32, (1, [(22, 341), (23, 333), (24, 335), (25, 340), (26, 334)])), (35, (2, [(15, 323), (16, 342), (17, 323), (18, 323), (19, 323), (20, 323), (21, 323), (22, 332), (23, 332), (24, 332), (25, 332), (26, 332), (27, 308), (28, 308), (29, 308), (30, 322), (31, 331), (32, 322)])), (56, (3, [(22, 251), (23, 251), (24, 251), (25, 251), (26, 251)]))]
def vmT_55 : List (Nat × Nat × List (Nat × Nat)) := [(32, (3, [(22, 251)])), (36, (3, [(15, 311), (16, 311), (17, 311), (18, 311), (19, 311), (20, 311), (21, 311), (22, 311), (23, 311), (24, 311), (25, 311), (26, 311), (27, 311), (28, 311), (29, 311), (30, 311), (31, 311), (32, 311)]))]
def vmT_56 : List (Nat × Nat × List (Nat × Nat)) := [(32, (3, [(23, 251)])), (38, (3, [(15, 311), (16, 311), (17, 311), (18, 311), (19, 311), (20, 311), (21, 311), (22, 311), (23, 311), (24, 311), (25, 311), (26, 311), (27, 311), (28, 311), (29, 311), (30, 311), (31, 311), (32, 311)]))]
def vmT_57 : List (Nat × Nat × List (Nat × Nat)) := [(22, (5, [(24, 289), (25, 289)])), (26, (3, [(24, 290), (25, 290)])), (36, (3, [(24, 251), (25, 251)])), (48, (3, [(15, 311), (16, 311), (17, 311), (18, 311), (19, 311), (20, 311), (21, 311), (22, 311), (23, 311), (24, 311), (25, 311), (26, 311), (27, 311), (28, 311), (29, 311), (30, 311), (31, 311), (32, 311)]))]
def vmT_58 : List (Nat × Nat × List (Nat × Nat)) := [(25, (5, [(24, 287)])), (29, (1, [(24, 291)])), (35, (5, [(24, 293)])), (38, (2, [(24, 338)]))]
def vmT_59 : List (Nat × Nat × List (Nat × Nat)) := [(25, (5, [(25, 293)])), (29, (1, [(25, 291)])), (35, (5, [(25, 287)])), (38, (2, [(25, 338)]))]
def vmT_60 : List (Nat × Nat × List (Nat × Nat)) := [(35, (3, [(26, 251)])), (45, (3, [(15, 311), (16, 311), (17, 311), (18, 311), (19, 311), (20, 311), (21, 311), (22, 311), (23, 311), (24, 311), (25, 311), (26, 311), (27, 311), (28, 311), (29, 311), (30, 311), (31, 311), (32, 311)]))]
def vmT_62 : List (Nat × Nat × List (Nat × Nat)) := [(18, (2, [(15, 250), (16, 254), (17, 255), (18, 255), (19, 255), (20, 255), (21, 255), (22, 253), (23, 253), (24, 253), (25, 253), (26, 253), (27, 247), (28, 247), (29, 247), (30, 256), (31, 249), (32, 248)])), (24, (1, [(27, 301), (28, 306), (29, 305)])), (41, (1, [(27, 309), (28, 321), (29, 317)])), (44, (2, [(15, 323), (16, 342), (17, 323), (18, 323), (19, 323), (20, 323), (21, 323), (22, 332), (23, 332), (24, 332), (25, 332), (26, 332), (27, 308), (28, 308), (29, 308), (30, 322), (31, 331), (32, 322)]))]
def vmT_63 : List (Nat × Nat × List (Nat × Nat)) := [(13, (1, [(15, 126), (16, 128), (17, 134), (18, 134), (19, 134), (20, 134), (21, 134), (22, 127), (23, 127), (24, 127), (25, 127), (26, 127), (27, 124), (28, 124), (29, 124), (30, 124), (31, 125), (32, 124)])), (49, (2, [(15, 302), (16, 302), (17, 302), (18, 302), (19, 302), (20, 302), (21, 302), (22, 302), (23, 302), (24, 302), (25, 302), (26, 302), (27, 302), (28, 302), (29, 302), (30, 302), (31, 302), (32, 302)])), (53, (2, [(27, 303)])), (56, (3, [(27, 252)])), (61, (2, [(15, 310), (16, 310), (17, 310), (18, 310), (19, 310), (20, 310), (21, 310), (22, 310), (23, 310), (24, 310), (25, 310), (26, 310), (27, 310), (28, 310), (29, 310), (30, 310), (31, 310), (32, 310)])), (65, (3, [(27, 313)])), (68, (2, [(15, 316), (16, 314), (17, 316), (18, 316), (19, 316), (20, 316), (21, 316), (22, 316), (23, 316), (24, 316), (25, 316), (26, 316), (27, 316), (28, 316), (29, 316), (30, 316), (31, 316), (32, 316)])), (72, (3, [(15, 307), (16, 307), (17, 307), (18, 307), (19, 307), (20, 307), (21, 307), (22, 307), (23, 307), (24, 307), (25, 307), (26, 307), (27, 307), (28, 307), (29, 307), (30, 307), (31, 307), (32, 307)])), (74, (2, [(15, 312), (16, 312), (17, 312), (18, 312), (19, 312), (20, 312), (21, 312), (22, 312), (23, 312), (24, 312), (25, 312), (26, 312), (27, 312), (28, 312), (29, 312), (30, 312), (31, 312), (32, 312)]))]
def vmT_64 : List (Nat × Nat × List (Nat × Nat)) := [(29, (3, [(28, 252)])), (38, (3, [(15, 311), (16, 311), (17, 311), (18, 311), (19, 311), (20, 311), (21, 311), (22, 311), (23, 311), (24, 311), (25, 311), (26, 311), (27, 311), (28, 311), (29, 311), (30, 311), (31, 311), (32, 311)]))]
def vmT_65 : List (Nat × Nat × List (Nat × Nat)) := [(29, (3, [(29, 252)])), (33, (1, [(29, 318)])), (37, (1, [(29, 319)])), (40, (1, [(29, 320)])), (44, (3, [(15, 307), (16, 307), (17, 307), (18, 307), (19, 307), (20, 307), (21, 307), (22, 307), (23, 307), (24, 307), (25, 307), (26, 307), (27, 307), (28, 307), (29, 307), (30, 307), (31, 307), (32, 307)]))]
def vmT_66 : List (Nat × Nat × List (Nat × Nat)) := [(13, (2, [(15, 250), (16, 254), (17, 255), (18, 255), (19, 255), (20, 255), (21, 255), (22, 253), (23, 253), (24, 253), (25, 253), (26, 253), (27, 247), (28, 247), (29, 247), (30, 256), (31, 249), (32, 248)])), (26, (3, [(30, 252)])), (32, (3, [(15, 307), (16, 307), (17, 307), (18, 307), (19, 307), (20, 307), (21, 307), (22, 307), (23, 307), (24, 307), (25, 307), (26, 307), (27, 307), (28, 307), (29, 307), (30, 307), (31, 307), (32, 307)])), (35, (2, [(15, 323), (16, 342), (17, 323), (18, 323), (19, 323), (20, 323), (21, 323), (22, 332), (23, 332), (24, 332), (25, 332), (26, 332), (27, 308), (28, 308), (29, 308), (30, 322), (31, 331), (32, 322)]))]
def vmT_67 : List (Nat × Nat × List (Nat × Nat)) := [(19, (1, [(15, 126), (16, 128), (17, 134), (18, 134), (19, 134), (20, 134), (21, 134), (22, 127), (23, 127), (24, 127), (25, 127), (26, 127), (27, 124), (28, 124), (29, 124), (30, 124), (31, 125), (32, 124)])), (23, (2, [(15, 250), (16, 254), (17, 255), (18, 255), (19, 255), (20, 255), (21, 255), (22, 253), (23, 253), (24, 253), (25, 253), (26, 253), (27, 247), (28, 247), (29, 247), (30, 256), (31, 249), (32, 248)])), (31, (2, [(31, 296)])), (54, (3, [(31, 251)])), (58, (3, [(31, 252)])), (67, (1, [(31, 125)])), (70, (2, [(15, 323), (16, 342), (17, 323), (18, 323), (19, 323), (20, 323), (21, 323), (22, 332), (23, 332), (24, 332), (25, 332), (26, 332), (27, 308), (28, 308), (29, 308), (30, 322), (31, 331), (32, 322)])), (73, (2, [(15, 310), (16, 310), (17, 310), (18, 310), (19, 310), (20, 310), (21, 310), (22, 310), (23, 310), (24, 310), (25, 310), (26, 310), (27, 310), (28, 310), (29, 310), (30, 310), (31, 310), (32, 310)])), (76, (2, [(15, 302), (16, 302), (17, 302), (18, 302), (19, 302), (20, 302), (21, 302), (22, 302), (23, 302), (24, 302), (25, 302), (26, 302), (27, 302), (28, 302), (29, 302), (30, 302), (31, 302), (32, 302)])), (80, (3, [(15, 307), (16, 307), (17, 307), (18, 307), (19, 307), (20, 307), (21, 307), (22, 307), (23, 307), (24, 307), (25, 307), (26, 307), (27, 307), (28, 307), (29, 307), (30, 307), (31, 307), (32, 307)]))]
def vmT_68 : List (Nat × Nat × List (Nat × Nat)) := [(17, (2, [(15, 250), (16, 254), (17, 255), (18, 255), (19, 255), (20, 255), (21, 255), (22, 253), (23, 253), (24, 253), (25, 253), (26, 253), (27, 247), (28, 247), (29, 247), (30, 256), (31, 249), (32, 248)])), (25, (2, [(32, 297)])), (31, (2, [(32, 298)])), (40, (2, [(32, 300)])), (50, (3, [(32, 252)])), (58, (2, [(32, 325)])), (61, (2, [(32, 330)])), (67, (2, [(15, 312), (16, 312), (17, 312), (18, 312), (19, 312), (20, 312), (21, 312), (22, 312), (23, 312), (24, 312), (25, 312), (26, 312), (27, 312), (28, 312), (29, 312), (30, 312), (31, 312), (32, 312)])), (70, (2, [(15, 323), (16, 342), (17, 323), (18, 323), (19, 323), (20, 323), (21, 323), (22, 332), (23, 332), (24, 332), (25, 332), (26, 332), (27, 308), (28, 308), (29, 308), (30, 322), (31, 331), (32, 322)])), (73, (2, [(15, 329), (16, 326), (17, 329), (18, 329), (19, 329), (20, 329), (21, 329), (22, 329), (23, 329), (24, 329), (25, 329), (26, 329), (27, 329), (28, 329), (29, 329), (30, 329), (31, 329), (32, 329)])), (89, (3, [(15, 311), (16, 311), (17, 311), (18, 311), (19, 311), (20, 311), (21, 311), (22, 311), (23, 311), (24, 311), (25, 311), (26, 311), (27, 311), (28, 311), (29, 311), (30, 311), (31, 311), (32, 311)]))]
def vmTL : List (Nat × List (Nat × Nat × List (Nat × Nat))) := [(3, vmT_3), (11, vmT_11), (30, vmT_30), (31, vmT_31), (32, vmT_32), (33, vmT_33), (34, vmT_34), (38, vmT_38), (39, vmT_39), (40, vmT_40), (41, vmT_41), (42, vmT_42), (43, vmT_43), (45, vmT_45), (46, vmT_46), (47, vmT_47), (48, vmT_48), (49, vmT_49), (50, vmT_50), (51, vmT_51), (52, vmT_52), (53, vmT_53), (54, vmT_54), (55, vmT_55), (56, vmT_56), (57, vmT_57), (58, vmT_58), (59, vmT_59), (60, vmT_60), (62, vmT_62), (63, vmT_63), (64, vmT_64), (65, vmT_65), (66, vmT_66), (67, vmT_67), (68, vmT_68)]
def vmT (o i : Nat) : Option (Nat × List (Nat × Nat)) := tb vmTL o i
theorem mV_3_335 : vmT 3 335 = some ((1, [(13, 39), (302, 39)])) := rfl
theorem mV_3_492 : vmT 3 492 = some ((1, [(13, 41), (302, 41)])) := rfl
theorem mV_3_505 : vmT 3 505 = some ((1, [(13, 38), (302, 38)])) := rfl
theorem mV_3_549 : vmT 3 549 = some ((1, [(33, 196)])) := rfl
theorem mV_3_552 : vmT 3 552 = some ((1, [(33, 195)])) := rfl
theorem mV_3_633 : vmT 3 633 = some ((3, [(13, 414), (302, 414)])) := rfl
theorem mV_3_1047 : vmT 3 1047 = some ((1, [(33, 182)])) := rfl
theorem mV_11_83 : vmT 11 83 = some ((1, [(33, 182)])) := rfl
theorem mV_11_100 : vmT 11 100 = some ((2, [(33, 175)])) := rfl
theorem mV_11_104 : vmT 11 104 = some ((2, [(33, 176)])) := rfl
theorem mV_11_195 : vmT 11 195 = some ((1, [(33, 184)])) := rfl
theorem mV_30_7 : vmT 30 7 = some ((2, [(0, 388)])) := rfl
theorem mV_30_15 : vmT 30 15 = some ((2, [(0, 391)])) := rfl
theorem mV_30_18 : vmT 30 18 = some ((3, [(0, 394)])) := rfl
theorem mV_30_26 : vmT 30 26 = some ((3, [(0, 639)])) := rfl
theorem mV_30_30 : vmT 30 30 = some ((3, [(0, 641)])) := rfl
theorem mV_30_33 : vmT 30 33 = some ((2, [(0, 396)])) := rfl
theorem mV_30_36 : vmT 30 36 = some ((2, [(0, 397)])) := rfl
theorem mV_30_40 : vmT 30 40 = some ((3, [(0, 398)])) := rfl
theorem mV_30_47 : vmT 30 47 = some ((6, [(0, 20)])) := rfl
theorem mV_30_51 : vmT 30 51 = some ((6, [(41, 402)])) := rfl
theorem mV_30_52 : vmT 30 52 = some ((2, [(0, 21)])) := rfl
theorem mV_30_55 : vmT 30 55 = some ((2, [(41, 405)])) := rfl
theorem mV_30_56 : vmT 30 56 = some ((2, [(0, 229)])) := rfl
theorem mV_30_59 : vmT 30 59 = some ((2, [(41, 514)])) := rfl
theorem mV_30_60 : vmT 30 60 = some ((1, [(0, 230)])) := rfl
theorem mV_30_64 : vmT 30 64 = some ((1, [(41, 404)])) := rfl
theorem mV_30_65 : vmT 30 65 = some ((1, [(0, 232)])) := rfl
theorem mV_30_68 : vmT 30 68 = some ((1, [(41, 515)])) := rfl
theorem mV_30_69 : vmT 30 69 = some ((2, [(0, 360)])) := rfl
theorem mV_30_73 : vmT 30 73 = some ((2, [(41, 575)])) := rfl
theorem mV_30_74 : vmT 30 74 = some ((2, [(0, 368)])) := rfl
theorem mV_30_77 : vmT 30 77 = some ((2, [(41, 577)])) := rfl
theorem mV_30_78 : vmT 30 78 = some ((1, [(0, 384)])) := rfl
theorem mV_30_82 : vmT 30 82 = some ((1, [(41, 574)])) := rfl
theorem mV_30_83 : vmT 30 83 = some ((2, [(0, 385)])) := rfl
theorem mV_30_86 : vmT 30 86 = some ((2, [(41, 586)])) := rfl
theorem mV_30_87 : vmT 30 87 = some ((2, [(0, 387)])) := rfl
theorem mV_30_90 : vmT 30 90 = some ((2, [(41, 587)])) := rfl
theorem mV_30_96 : vmT 30 96 = some ((2, [(41, 588)])) := rfl
theorem mV_30_97 : vmT 30 97 = some ((1, [(41, 399)])) := rfl
theorem mV_30_102 : vmT 30 102 = some ((2, [(41, 591)])) := rfl
theorem mV_30_106 : vmT 30 106 = some ((3, [(41, 593)])) := rfl
theorem mV_30_109 : vmT 30 109 = some ((3, [(41, 596)])) := rfl
theorem mV_30_112 : vmT 30 112 = some ((3, [(41, 597)])) := rfl
theorem mV_30_115 : vmT 30 115 = some ((2, [(41, 598)])) := rfl
theorem mV_30_118 : vmT 30 118 = some ((2, [(41, 599)])) := rfl
theorem mV_30_121 : vmT 30 121 = some ((3, [(41, 600)])) := rfl
theorem mV_31_39 : vmT 31 39 = some ((1, [(2, 18)])) := rfl
theorem mV_31_52 : vmT 31 52 = some ((1, [(2, 22)])) := rfl
theorem mV_31_56 : vmT 31 56 = some ((2, [(1, 31)])) := rfl
theorem mV_31_60 : vmT 31 60 = some ((1, [(1, 52)])) := rfl
theorem mV_31_63 : vmT 31 63 = some ((1, [(1, 53)])) := rfl
theorem mV_31_66 : vmT 31 66 = some ((1, [(0, 601)])) := rfl
theorem mV_31_69 : vmT 31 69 = some ((1, [(1, 54)])) := rfl
theorem mV_31_71 : vmT 31 71 = some ((1, [(3, 92)])) := rfl
theorem mV_31_82 : vmT 31 82 = some ((1, [(3, 231)])) := rfl
theorem mV_31_83 : vmT 31 83 = some ((1, [(2, 621)])) := rfl
theorem mV_31_86 : vmT 31 86 = some ((2, [(2, 361)])) := rfl
theorem mV_31_90 : vmT 31 90 = some ((2, [(2, 369)])) := rfl
theorem mV_31_114 : vmT 31 114 = some ((1, [(2, 386)])) := rfl
theorem mV_31_134 : vmT 31 134 = some ((2, [(0, 389)])) := rfl
theorem mV_31_138 : vmT 31 138 = some ((1, [(7, 130), (8, 131), (9, 133), (10, 132), (11, 129)])) := rfl
theorem mV_31_155 : vmT 31 155 = some ((2, [(7, 629), (8, 630), (9, 632), (10, 631), (11, 628)])) := rfl
theorem mV_31_163 : vmT 31 163 = some ((2, [(0, 395)])) := rfl
theorem mV_31_195 : vmT 31 195 = some ((2, [(2, 634)])) := rfl
theorem mV_31_218 : vmT 31 218 = some ((3, [(2, 645)])) := rfl
theorem mV_32_118 : vmT 32 118 = some ((1, [(1, 32)])) := rfl
theorem mV_32_127 : vmT 32 127 = some ((2, [(1, 33)])) := rfl
theorem mV_32_135 : vmT 32 135 = some ((1, [(1, 35)])) := rfl
theorem mV_32_141 : vmT 32 141 = some ((1, [(1, 49)])) := rfl
theorem mV_32_144 : vmT 32 144 = some ((1, [(1, 50)])) := rfl
theorem mV_32_147 : vmT 32 147 = some ((2, [(1, 51)])) := rfl
theorem mV_32_150 : vmT 32 150 = some ((4, [(1, 37)])) := rfl
theorem mV_32_157 : vmT 32 157 = some ((1, [(13, 38), (302, 38)])) := rfl
theorem mV_32_161 : vmT 32 161 = some ((2, [(13, 40), (302, 40)])) := rfl
theorem mV_32_181 : vmT 32 181 = some ((2, [(1, 56)])) := rfl
theorem mV_32_185 : vmT 32 185 = some ((2, [(1, 60)])) := rfl
theorem mV_32_188 : vmT 32 188 = some ((1, [(1, 57)])) := rfl
theorem mV_32_191 : vmT 32 191 = some ((2, [(1, 59)])) := rfl
theorem mV_32_194 : vmT 32 194 = some ((2, [(1, 73)])) := rfl
theorem mV_32_203 : vmT 32 203 = some ((1, [(1, 55)])) := rfl
theorem mV_32_206 : vmT 32 206 = some ((2, [(1, 58)])) := rfl
theorem mV_32_211 : vmT 32 211 = some ((3, [(1, 61)])) := rfl
theorem mV_32_214 : vmT 32 214 = some ((1, [(1, 62)])) := rfl
theorem mV_32_216 : vmT 32 216 = some ((2, [(1, 74)])) := rfl
theorem mV_32_222 : vmT 32 222 = some ((1, [(1, 69)])) := rfl
theorem mV_32_225 : vmT 32 225 = some ((2, [(1, 66)])) := rfl
theorem mV_32_229 : vmT 32 229 = some ((1, [(1, 76)])) := rfl
theorem mV_32_231 : vmT 32 231 = some ((1, [(1, 77)])) := rfl
theorem mV_32_234 : vmT 32 234 = some ((1, [(1, 80)])) := rfl
theorem mV_32_236 : vmT 32 236 = some ((1, [(1, 68)])) := rfl
theorem mV_32_239 : vmT 32 239 = some ((1, [(1, 81)])) := rfl
theorem mV_32_242 : vmT 32 242 = some ((2, [(1, 78)])) := rfl
theorem mV_32_245 : vmT 32 245 = some ((3, [(1, 79)])) := rfl
theorem mV_32_248 : vmT 32 248 = some ((1, [(1, 63)])) := rfl
theorem mV_32_251 : vmT 32 251 = some ((1, [(1, 67)])) := rfl
theorem mV_32_254 : vmT 32 254 = some ((1, [(1, 64)])) := rfl
theorem mV_32_263 : vmT 32 263 = some ((1, [(1, 70)])) := rfl
theorem mV_32_266 : vmT 32 266 = some ((1, [(1, 71)])) := rfl
theorem mV_32_269 : vmT 32 269 = some ((1, [(1, 72)])) := rfl
theorem mV_32_274 : vmT 32 274 = some ((1, [(1, 82)])) := rfl
theorem mV_32_277 : vmT 32 277 = some ((1, [(1, 83)])) := rfl
theorem mV_32_279 : vmT 32 279 = some ((1, [(1, 84)])) := rfl
theorem mV_32_282 : vmT 32 282 = some ((1, [(1, 85)])) := rfl
theorem mV_32_285 : vmT 32 285 = some ((1, [(1, 86)])) := rfl
theorem mV_32_287 : vmT 32 287 = some ((1, [(1, 91)])) := rfl
theorem mV_32_290 : vmT 32 290 = some ((1, [(1, 87)])) := rfl
theorem mV_32_293 : vmT 32 293 = some ((1, [(1, 88)])) := rfl
theorem mV_32_296 : vmT 32 296 = some ((1, [(1, 89)])) := rfl
theorem mV_32_299 : vmT 32 299 = some ((2, [(1, 90)])) := rfl
theorem mV_33_78 : vmT 33 78 = some ((1, [(2, 19)])) := rfl
theorem mV_33_119 : vmT 33 119 = some ((1, [(7, 236), (8, 237), (9, 239), (10, 238), (11, 235)])) := rfl
theorem mV_33_128 : vmT 33 128 = some ((1, [(7, 622), (8, 623), (9, 624)])) := rfl
theorem mV_33_132 : vmT 33 132 = some ((1, [(7, 244), (8, 245), (9, 246)])) := rfl
theorem mV_33_141 : vmT 33 141 = some ((1, [(2, 234)])) := rfl
theorem mV_33_144 : vmT 33 144 = some ((2, [(2, 625)])) := rfl
theorem mV_33_148 : vmT 33 148 = some ((2, [(2, 359)])) := rfl
theorem mV_33_153 : vmT 33 153 = some ((2, [(15, 250), (16, 254), (17, 255), (18, 255), (19, 255), (20, 255), (21, 255), (22, 253), (23, 253), (24, 253), (25, 253), (26, 253), (27, 247), (28, 247), (29, 247), (30, 256), (31, 249), (32, 248)])) := rfl
theorem mV_33_157 : vmT 33 157 = some ((3, [(15, 307), (16, 307), (17, 307), (18, 307), (19, 307), (20, 307), (21, 307), (22, 307), (23, 307), (24, 307), (25, 307), (26, 307), (27, 307), (28, 307), (29, 307), (30, 307), (31, 307), (32, 307)])) := rfl
theorem mV_33_161 : vmT 33 161 = some ((2, [(15, 323), (16, 342), (17, 323), (18, 323), (19, 323), (20, 323), (21, 323), (22, 332), (23, 332), (24, 332), (25, 332), (26, 332), (27, 308), (28, 308), (29, 308), (30, 322), (31, 331), (32, 322)])) := rfl
theorem mV_33_168 : vmT 33 168 = some ((1, [(2, 22)])) := rfl
theorem mV_33_171 : vmT 33 171 = some ((1, [(2, 233)])) := rfl
theorem mV_33_185 : vmT 33 185 = some ((2, [(7, 629), (8, 630), (9, 632), (10, 631), (11, 628)])) := rfl
theorem mV_33_191 : vmT 33 191 = some ((3, [(7, 24)])) := rfl
theorem mV_33_197 : vmT 33 197 = some ((3, [(8, 25)])) := rfl
theorem mV_33_202 : vmT 33 202 = some ((4, [(9, 26)])) := rfl
theorem mV_33_207 : vmT 33 207 = some ((3, [(10, 28)])) := rfl
theorem mV_33_209 : vmT 33 209 = some ((4, [(11, 29)])) := rfl
theorem mV_33_212 : vmT 33 212 = some ((2, [(2, 362)])) := rfl
theorem mV_33_227 : vmT 33 227 = some ((2, [(2, 23)])) := rfl
theorem mV_33_232 : vmT 33 232 = some ((1, [(2, 633)])) := rfl
theorem mV_33_235 : vmT 33 235 = some ((2, [(2, 383)])) := rfl
theorem mV_33_239 : vmT 33 239 = some ((1, [(2, 370)])) := rfl
theorem mV_33_247 : vmT 33 247 = some ((2, [(7, 372), (8, 373), (9, 375), (10, 374), (11, 371)])) := rfl
theorem mV_33_251 : vmT 33 251 = some ((1, [(2, 376)])) := rfl
theorem mV_33_254 : vmT 33 254 = some ((2, [(2, 378)])) := rfl
theorem mV_33_258 : vmT 33 258 = some ((2, [(2, 634)])) := rfl
theorem mV_33_262 : vmT 33 262 = some ((1, [(2, 377)])) := rfl
theorem mV_33_273 : vmT 33 273 = some ((1, [(7, 622)])) := rfl
theorem mV_33_274 : vmT 33 274 = some ((1, [(7, 244)])) := rfl
theorem mV_33_290 : vmT 33 290 = some ((1, [(8, 623)])) := rfl
theorem mV_33_291 : vmT 33 291 = some ((1, [(8, 245)])) := rfl
theorem mV_33_295 : vmT 33 295 = some ((1, [(9, 624)])) := rfl
theorem mV_33_296 : vmT 33 296 = some ((2, [(9, 315)])) := rfl
theorem mV_33_300 : vmT 33 300 = some ((2, [(9, 380)])) := rfl
theorem mV_33_304 : vmT 33 304 = some ((1, [(11, 627)])) := rfl
theorem mV_33_306 : vmT 33 306 = some ((2, [(11, 349)])) := rfl
theorem mV_33_314 : vmT 33 314 = some ((2, [(11, 382)])) := rfl
theorem mV_34_102 : vmT 34 102 = some ((2, [(1, 97)])) := rfl
theorem mV_34_108 : vmT 34 108 = some ((4, [(1, 37)])) := rfl
theorem mV_34_121 : vmT 34 121 = some ((2, [(33, 173)])) := rfl
theorem mV_34_125 : vmT 34 125 = some ((1, [(33, 192)])) := rfl
theorem mV_34_129 : vmT 34 129 = some ((2, [(3, 96)])) := rfl
theorem mV_34_137 : vmT 34 137 = some ((2, [(4, 98)])) := rfl
theorem mV_34_167 : vmT 34 167 = some ((3, [(3, 93)])) := rfl
theorem mV_34_171 : vmT 34 171 = some ((4, [(3, 103)])) := rfl
theorem mV_34_175 : vmT 34 175 = some ((4, [(3, 112)])) := rfl
theorem mV_34_178 : vmT 34 178 = some ((4, [(3, 166)])) := rfl
theorem mV_34_181 : vmT 34 181 = some ((2, [(3, 94)])) := rfl
theorem mV_34_184 : vmT 34 184 = some ((2, [(3, 95)])) := rfl
theorem mV_34_187 : vmT 34 187 = some ((3, [(3, 602)])) := rfl
theorem mV_34_191 : vmT 34 191 = some ((3, [(3, 603)])) := rfl
theorem mV_34_208 : vmT 34 208 = some ((2, [(3, 104)])) := rfl
theorem mV_34_212 : vmT 34 212 = some ((2, [(3, 105)])) := rfl
theorem mV_34_216 : vmT 34 216 = some ((2, [(3, 106)])) := rfl
theorem mV_34_218 : vmT 34 218 = some ((2, [(3, 604)])) := rfl
theorem mV_34_230 : vmT 34 230 = some ((4, [(3, 167)])) := rfl
theorem mV_34_238 : vmT 34 238 = some ((2, [(3, 204)])) := rfl
theorem mV_34_241 : vmT 34 241 = some ((2, [(3, 205)])) := rfl
theorem mV_34_244 : vmT 34 244 = some ((2, [(3, 607)])) := rfl
theorem mV_34_248 : vmT 34 248 = some ((3, [(7, 609), (8, 610), (9, 612), (10, 611), (11, 608)])) := rfl
theorem mV_34_252 : vmT 34 252 = some ((3, [(3, 221)])) := rfl
theorem mV_34_254 : vmT 34 254 = some ((2, [(3, 159)])) := rfl
theorem mV_34_258 : vmT 34 258 = some ((2, [(3, 605)])) := rfl
theorem mV_34_264 : vmT 34 264 = some ((2, [(3, 224)])) := rfl
theorem mV_34_267 : vmT 34 267 = some ((4, [(3, 619)])) := rfl
theorem mV_34_271 : vmT 34 271 = some ((6, [(3, 620)])) := rfl
theorem mV_34_278 : vmT 34 278 = some ((1, [(3, 227)])) := rfl
theorem mV_34_281 : vmT 34 281 = some ((1, [(3, 228)])) := rfl
theorem mV_34_284 : vmT 34 284 = some ((1, [(7, 130), (8, 131), (9, 133), (10, 132), (11, 129)])) := rfl
theorem mV_34_291 : vmT 34 291 = some ((2, [(3, 613)])) := rfl
theorem mV_34_295 : vmT 34 295 = some ((2, [(3, 614)])) := rfl
theorem mV_34_298 : vmT 34 298 = some ((2, [(3, 615)])) := rfl
theorem mV_34_301 : vmT 34 301 = some ((2, [(3, 616)])) := rfl
theorem mV_34_304 : vmT 34 304 = some ((2, [(3, 617)])) := rfl
theorem mV_34_307 : vmT 34 307 = some ((2, [(3, 618)])) := rfl
theorem mV_34_327 : vmT 34 327 = some ((1, [(15, 126), (16, 128), (17, 134), (18, 134), (19, 134), (20, 134), (21, 134), (22, 127), (23, 127), (24, 127), (25, 127), (26, 127), (27, 124), (28, 124), (29, 124), (30, 124), (31, 125), (32, 124)])) := rfl
theorem mV_34_348 : vmT 34 348 = some ((1, [(3, 114)])) := rfl
theorem mV_34_356 : vmT 34 356 = some ((2, [(3, 117)])) := rfl
theorem mV_34_364 : vmT 34 364 = some ((2, [(3, 113)])) := rfl
theorem mV_34_368 : vmT 34 368 = some ((2, [(3, 118)])) := rfl
theorem mV_34_372 : vmT 34 372 = some ((2, [(3, 119)])) := rfl
theorem mV_34_375 : vmT 34 375 = some ((2, [(3, 120)])) := rfl
theorem mV_34_378 : vmT 34 378 = some ((2, [(3, 121)])) := rfl
theorem mV_34_381 : vmT 34 381 = some ((1, [(3, 123)])) := rfl
theorem mV_34_389 : vmT 34 389 = some ((2, [(3, 137)])) := rfl
theorem mV_34_392 : vmT 34 392 = some ((4, [(3, 142)])) := rfl
theorem mV_34_399 : vmT 34 399 = some ((4, [(3, 156)])) := rfl
theorem mV_34_403 : vmT 34 403 = some ((3, [(3, 158)])) := rfl
theorem mV_34_406 : vmT 34 406 = some ((3, [(3, 163)])) := rfl
theorem mV_34_410 : vmT 34 410 = some ((3, [(3, 164)])) := rfl
theorem mV_34_468 : vmT 34 468 = some ((2, [(3, 160)])) := rfl
theorem mV_34_471 : vmT 34 471 = some ((2, [(3, 161)])) := rfl
theorem mV_34_474 : vmT 34 474 = some ((2, [(3, 606)])) := rfl
theorem mV_34_477 : vmT 34 477 = some ((1, [(3, 162)])) := rfl
theorem mV_38_13 : vmT 38 13 = some ((2, [(4, 98)])) := rfl
theorem mV_38_19 : vmT 38 19 = some ((3, [(7, 24)])) := rfl
theorem mV_39_27 : vmT 39 27 = some ((2, [(4, 98)])) := rfl
theorem mV_39_40 : vmT 39 40 = some ((3, [(8, 25)])) := rfl
theorem mV_40_11 : vmT 40 11 = some ((3, [(9, 213)])) := rfl
theorem mV_40_21 : vmT 40 21 = some ((2, [(4, 98)])) := rfl
theorem mV_40_27 : vmT 40 27 = some ((1, [(9, 27)])) := rfl
theorem mV_40_30 : vmT 40 30 = some ((2, [(9, 220)])) := rfl
theorem mV_41_13 : vmT 41 13 = some ((2, [(4, 98)])) := rfl
theorem mV_41_19 : vmT 41 19 = some ((3, [(10, 28)])) := rfl
theorem mV_41_42 : vmT 41 42 = some ((1, [(10, 238)])) := rfl
theorem mV_42_13 : vmT 42 13 = some ((2, [(4, 98)])) := rfl
theorem mV_42_19 : vmT 42 19 = some ((1, [(11, 30)])) := rfl
theorem mV_43_225 : vmT 43 225 = some ((1, [(41, 401)])) := rfl
theorem mV_43_231 : vmT 43 231 = some ((2, [(41, 403)])) := rfl
theorem mV_43_238 : vmT 43 238 = some ((2, [(41, 408)])) := rfl
theorem mV_43_242 : vmT 43 242 = some ((3, [(41, 409)])) := rfl
theorem mV_43_253 : vmT 43 253 = some ((3, [(41, 412)])) := rfl
theorem mV_43_259 : vmT 43 259 = some ((2, [(13, 413), (302, 413)])) := rfl
theorem mV_43_266 : vmT 43 266 = some ((1, [(13, 38), (302, 38)])) := rfl
theorem mV_43_270 : vmT 43 270 = some ((2, [(13, 40), (302, 40)])) := rfl
theorem mV_43_283 : vmT 43 283 = some ((1, [(41, 432)])) := rfl
theorem mV_43_286 : vmT 43 286 = some ((2, [(41, 430)])) := rfl
theorem mV_43_290 : vmT 43 290 = some ((1, [(41, 431)])) := rfl
theorem mV_43_296 : vmT 43 296 = some ((1, [(41, 436)])) := rfl
theorem mV_43_300 : vmT 43 300 = some ((1, [(41, 437)])) := rfl
theorem mV_43_305 : vmT 43 305 = some ((2, [(41, 429)])) := rfl
theorem mV_43_310 : vmT 43 310 = some ((1, [(41, 438)])) := rfl
theorem mV_43_319 : vmT 43 319 = some ((1, [(41, 439)])) := rfl
theorem mV_43_324 : vmT 43 324 = some ((2, [(41, 434)])) := rfl
theorem mV_43_328 : vmT 43 328 = some ((1, [(41, 435)])) := rfl
theorem mV_43_333 : vmT 43 333 = some ((2, [(41, 440)])) := rfl
theorem mV_43_341 : vmT 43 341 = some ((2, [(41, 433)])) := rfl
theorem mV_43_348 : vmT 43 348 = some ((1, [(41, 444)])) := rfl
theorem mV_43_357 : vmT 43 357 = some ((1, [(41, 443)])) := rfl
theorem mV_43_360 : vmT 43 360 = some ((1, [(41, 445)])) := rfl
theorem mV_43_379 : vmT 43 379 = some ((1, [(41, 449)])) := rfl
theorem mV_43_388 : vmT 43 388 = some ((1, [(41, 448)])) := rfl
theorem mV_43_393 : vmT 43 393 = some ((1, [(41, 450)])) := rfl
theorem mV_43_408 : vmT 43 408 = some ((1, [(41, 451)])) := rfl
theorem mV_43_411 : vmT 43 411 = some ((1, [(41, 455)])) := rfl
theorem mV_43_416 : vmT 43 416 = some ((1, [(41, 452)])) := rfl
theorem mV_43_419 : vmT 43 419 = some ((1, [(41, 453)])) := rfl
theorem mV_43_422 : vmT 43 422 = some ((1, [(41, 447)])) := rfl
theorem mV_43_436 : vmT 43 436 = some ((2, [(41, 454)])) := rfl
theorem mV_43_457 : vmT 43 457 = some ((1, [(41, 441)])) := rfl
theorem mV_43_462 : vmT 43 462 = some ((1, [(41, 442)])) := rfl
theorem mV_43_473 : vmT 43 473 = some ((1, [(41, 446)])) := rfl
theorem mV_43_533 : vmT 43 533 = some ((2, [(41, 460)])) := rfl
theorem mV_43_537 : vmT 43 537 = some ((2, [(41, 459)])) := rfl
theorem mV_43_540 : vmT 43 540 = some ((1, [(41, 468)])) := rfl
theorem mV_43_543 : vmT 43 543 = some ((1, [(41, 469)])) := rfl
theorem mV_43_546 : vmT 43 546 = some ((2, [(41, 461)])) := rfl
theorem mV_43_549 : vmT 43 549 = some ((1, [(41, 467)])) := rfl
theorem mV_43_552 : vmT 43 552 = some ((1, [(41, 464)])) := rfl
theorem mV_43_568 : vmT 43 568 = some ((1, [(41, 463)])) := rfl
theorem mV_43_571 : vmT 43 571 = some ((1, [(41, 466)])) := rfl
theorem mV_43_574 : vmT 43 574 = some ((2, [(41, 470)])) := rfl
theorem mV_43_595 : vmT 43 595 = some ((2, [(41, 478)])) := rfl
theorem mV_43_598 : vmT 43 598 = some ((4, [(41, 479)])) := rfl
theorem mV_43_604 : vmT 43 604 = some ((4, [(41, 481)])) := rfl
theorem mV_43_608 : vmT 43 608 = some ((3, [(41, 458)])) := rfl
theorem mV_43_611 : vmT 43 611 = some ((1, [(41, 462)])) := rfl
theorem mV_43_614 : vmT 43 614 = some ((2, [(41, 471)])) := rfl
theorem mV_43_617 : vmT 43 617 = some ((2, [(41, 474)])) := rfl
theorem mV_43_620 : vmT 43 620 = some ((2, [(41, 480)])) := rfl
theorem mV_43_623 : vmT 43 623 = some ((1, [(41, 486)])) := rfl
theorem mV_43_625 : vmT 43 625 = some ((1, [(41, 457)])) := rfl
theorem mV_43_628 : vmT 43 628 = some ((1, [(41, 482)])) := rfl
theorem mV_43_630 : vmT 43 630 = some ((1, [(41, 483)])) := rfl
theorem mV_43_632 : vmT 43 632 = some ((1, [(41, 484)])) := rfl
theorem mV_43_634 : vmT 43 634 = some ((1, [(41, 485)])) := rfl
theorem mV_43_636 : vmT 43 636 = some ((1, [(41, 487)])) := rfl
theorem mV_43_638 : vmT 43 638 = some ((1, [(41, 488)])) := rfl
theorem mV_43_640 : vmT 43 640 = some ((2, [(41, 489)])) := rfl
theorem mV_43_644 : vmT 43 644 = some ((1, [(41, 406)])) := rfl
theorem mV_43_647 : vmT 43 647 = some ((1, [(41, 407)])) := rfl
theorem mV_43_650 : vmT 43 650 = some ((1, [(41, 428)])) := rfl
theorem mV_43_653 : vmT 43 653 = some ((2, [(41, 456)])) := rfl
theorem mV_43_662 : vmT 43 662 = some ((6, [(41, 499)])) := rfl
theorem mV_43_666 : vmT 43 666 = some ((1, [(41, 490)])) := rfl
theorem mV_43_672 : vmT 43 672 = some ((2, [(41, 511)])) := rfl
theorem mV_43_678 : vmT 43 678 = some ((2, [(41, 512)])) := rfl
theorem mV_43_684 : vmT 43 684 = some ((1, [(41, 491)])) := rfl
theorem mV_43_687 : vmT 43 687 = some ((6, [(41, 507)])) := rfl
theorem mV_43_690 : vmT 43 690 = some ((1, [(41, 492)])) := rfl
theorem mV_43_693 : vmT 43 693 = some ((1, [(41, 493)])) := rfl
theorem mV_43_696 : vmT 43 696 = some ((1, [(41, 494)])) := rfl
theorem mV_43_698 : vmT 43 698 = some ((1, [(41, 508)])) := rfl
theorem mV_43_701 : vmT 43 701 = some ((2, [(41, 509)])) := rfl
theorem mV_43_707 : vmT 43 707 = some ((2, [(41, 510)])) := rfl
theorem mV_43_710 : vmT 43 710 = some ((1, [(41, 495)])) := rfl
theorem mV_43_713 : vmT 43 713 = some ((1, [(41, 496)])) := rfl
theorem mV_43_716 : vmT 43 716 = some ((1, [(41, 497)])) := rfl
theorem mV_43_719 : vmT 43 719 = some ((2, [(41, 498)])) := rfl
theorem mV_43_729 : vmT 43 729 = some ((3, [(41, 501)])) := rfl
theorem mV_43_732 : vmT 43 732 = some ((2, [(41, 502)])) := rfl
theorem mV_43_735 : vmT 43 735 = some ((1, [(41, 503)])) := rfl
theorem mV_43_738 : vmT 43 738 = some ((1, [(41, 504)])) := rfl
theorem mV_43_741 : vmT 43 741 = some ((2, [(41, 505)])) := rfl
theorem mV_43_744 : vmT 43 744 = some ((4, [(41, 506)])) := rfl
theorem mV_43_763 : vmT 43 763 = some ((3, [(41, 525)])) := rfl
theorem mV_43_775 : vmT 43 775 = some ((5, [(41, 537)])) := rfl
theorem mV_43_782 : vmT 43 782 = some ((3, [(41, 541)])) := rfl
theorem mV_43_797 : vmT 43 797 = some ((2, [(41, 520)])) := rfl
theorem mV_43_800 : vmT 43 800 = some ((2, [(41, 524)])) := rfl
theorem mV_43_803 : vmT 43 803 = some ((2, [(41, 546)])) := rfl
theorem mV_43_812 : vmT 43 812 = some ((6, [(41, 528)])) := rfl
theorem mV_43_816 : vmT 43 816 = some ((5, [(41, 529)])) := rfl
theorem mV_43_819 : vmT 43 819 = some ((5, [(41, 534)])) := rfl
theorem mV_43_821 : vmT 43 821 = some ((5, [(41, 535)])) := rfl
theorem mV_43_824 : vmT 43 824 = some ((5, [(41, 538)])) := rfl
theorem mV_43_827 : vmT 43 827 = some ((3, [(41, 542)])) := rfl
theorem mV_43_830 : vmT 43 830 = some ((3, [(41, 543)])) := rfl
theorem mV_43_842 : vmT 43 842 = some ((4, [(41, 548)])) := rfl
theorem mV_43_849 : vmT 43 849 = some ((3, [(41, 551)])) := rfl
theorem mV_43_857 : vmT 43 857 = some ((3, [(41, 519)])) := rfl
theorem mV_43_864 : vmT 43 864 = some ((2, [(41, 552)])) := rfl
theorem mV_43_867 : vmT 43 867 = some ((4, [(41, 558)])) := rfl
theorem mV_43_871 : vmT 43 871 = some ((2, [(41, 553)])) := rfl
theorem mV_43_874 : vmT 43 874 = some ((2, [(41, 556)])) := rfl
theorem mV_43_877 : vmT 43 877 = some ((2, [(41, 561)])) := rfl
theorem mV_43_880 : vmT 43 880 = some ((2, [(41, 564)])) := rfl
theorem mV_43_883 : vmT 43 883 = some ((2, [(41, 570)])) := rfl
theorem mV_43_886 : vmT 43 886 = some ((4, [(41, 557)])) := rfl
theorem mV_43_889 : vmT 43 889 = some ((4, [(41, 560)])) := rfl
theorem mV_43_892 : vmT 43 892 = some ((3, [(41, 559)])) := rfl
theorem mV_43_896 : vmT 43 896 = some ((2, [(41, 562)])) := rfl
theorem mV_43_898 : vmT 43 898 = some ((4, [(41, 563)])) := rfl
theorem mV_43_901 : vmT 43 901 = some ((3, [(41, 567)])) := rfl
theorem mV_43_905 : vmT 43 905 = some ((3, [(41, 555)])) := rfl
theorem mV_43_908 : vmT 43 908 = some ((4, [(41, 565)])) := rfl
theorem mV_43_911 : vmT 43 911 = some ((4, [(41, 566)])) := rfl
theorem mV_43_914 : vmT 43 914 = some ((3, [(41, 568)])) := rfl
theorem mV_43_917 : vmT 43 917 = some ((3, [(41, 569)])) := rfl
theorem mV_43_920 : vmT 43 920 = some ((4, [(41, 571)])) := rfl
theorem mV_43_923 : vmT 43 923 = some ((4, [(41, 554)])) := rfl
theorem mV_43_947 : vmT 43 947 = some ((3, [(41, 518)])) := rfl
theorem mV_43_950 : vmT 43 950 = some ((1, [(41, 572)])) := rfl
theorem mV_43_955 : vmT 43 955 = some ((1, [(41, 516)])) := rfl
theorem mV_43_958 : vmT 43 958 = some ((1, [(41, 517)])) := rfl
theorem mV_43_961 : vmT 43 961 = some ((1, [(41, 573)])) := rfl
theorem mV_43_979 : vmT 43 979 = some ((1, [(41, 576)])) := rfl
theorem mV_43_987 : vmT 43 987 = some ((2, [(41, 583)])) := rfl
theorem mV_43_990 : vmT 43 990 = some ((1, [(41, 579)])) := rfl
theorem mV_43_995 : vmT 43 995 = some ((2, [(41, 580)])) := rfl
theorem mV_43_998 : vmT 43 998 = some ((2, [(41, 582)])) := rfl
theorem mV_43_1001 : vmT 43 1001 = some ((1, [(41, 584)])) := rfl
theorem mV_43_1004 : vmT 43 1004 = some ((1, [(41, 585)])) := rfl
theorem mV_43_1011 : vmT 43 1011 = some ((1, [(41, 578)])) := rfl
theorem mV_43_1014 : vmT 43 1014 = some ((2, [(41, 589)])) := rfl
theorem mV_43_1017 : vmT 43 1017 = some ((2, [(41, 590)])) := rfl
theorem mV_43_1026 : vmT 43 1026 = some ((3, [(41, 595)])) := rfl
theorem mV_43_1030 : vmT 43 1030 = some ((7, [(41, 594)])) := rfl
theorem mV_45_34 : vmT 45 34 = some ((2, [(15, 358), (16, 344), (17, 350), (18, 350), (19, 350), (20, 350), (21, 350), (22, 358), (23, 358), (24, 358), (25, 358), (26, 358), (27, 358), (28, 358), (29, 358), (30, 357), (31, 343), (32, 324)])) := rfl
theorem mV_45_54 : vmT 45 54 = some ((1, [(15, 126), (16, 128), (17, 134), (18, 134), (19, 134), (20, 134), (21, 134), (22, 127), (23, 127), (24, 127), (25, 127), (26, 127), (27, 124), (28, 124), (29, 124), (30, 124), (31, 125), (32, 124)])) := rfl
theorem mV_45_58 : vmT 45 58 = some ((3, [(15, 311), (16, 311), (17, 311), (18, 311), (19, 311), (20, 311), (21, 311), (22, 311), (23, 311), (24, 311), (25, 311), (26, 311), (27, 311), (28, 311), (29, 311), (30, 311), (31, 311), (32, 311)])) := rfl
theorem mV_45_62 : vmT 45 62 = some ((3, [(15, 307), (16, 307), (17, 307), (18, 307), (19, 307), (20, 307), (21, 307), (22, 307), (23, 307), (24, 307), (25, 307), (26, 307), (27, 307), (28, 307), (29, 307), (30, 307), (31, 307), (32, 307)])) := rfl
theorem mV_45_66 : vmT 45 66 = some ((2, [(15, 312), (16, 312), (17, 312), (18, 312), (19, 312), (20, 312), (21, 312), (22, 312), (23, 312), (24, 312), (25, 312), (26, 312), (27, 312), (28, 312), (29, 312), (30, 312), (31, 312), (32, 312)])) := rfl
theorem mV_46_24 : vmT 46 24 = some ((3, [(15, 251)])) := rfl
theorem mV_46_28 : vmT 46 28 = some ((3, [(15, 252)])) := rfl
theorem mV_47_15 : vmT 47 15 = some ((1, [(7, 130), (8, 131), (9, 133), (10, 132), (11, 129)])) := rfl
theorem mV_47_23 : vmT 47 23 = some ((1, [(7, 622), (8, 623), (9, 624)])) := rfl
theorem mV_47_27 : vmT 47 27 = some ((1, [(7, 244), (8, 245), (9, 246)])) := rfl
theorem mV_47_30 : vmT 47 30 = some ((3, [(16, 251)])) := rfl
theorem mV_47_36 : vmT 47 36 = some ((2, [(10, 626)])) := rfl
theorem mV_47_40 : vmT 47 40 = some ((3, [(16, 252)])) := rfl
theorem mV_47_46 : vmT 47 46 = some ((1, [(11, 627)])) := rfl
theorem mV_47_52 : vmT 47 52 = some ((1, [(16, 128)])) := rfl
theorem mV_47_69 : vmT 47 69 = some ((3, [(7, 345), (8, 346), (9, 347)])) := rfl
theorem mV_47_72 : vmT 47 72 = some ((3, [(10, 348)])) := rfl
theorem mV_47_74 : vmT 47 74 = some ((2, [(11, 349)])) := rfl
theorem mV_47_79 : vmT 47 79 = some ((2, [(9, 315)])) := rfl
theorem mV_47_83 : vmT 47 83 = some ((2, [(9, 327)])) := rfl
theorem mV_48_13 : vmT 48 13 = some ((2, [(15, 250), (16, 254), (17, 255), (18, 255), (19, 255), (20, 255), (21, 255), (22, 253), (23, 253), (24, 253), (25, 253), (26, 253), (27, 247), (28, 247), (29, 247), (30, 256), (31, 249), (32, 248)])) := rfl
theorem mV_48_17 : vmT 48 17 = some ((1, [(17, 260), (18, 257), (19, 276), (20, 261), (21, 277)])) := rfl
theorem mV_48_20 : vmT 48 20 = some ((1, [(17, 353), (18, 351), (19, 355), (20, 354), (21, 356)])) := rfl
theorem mV_48_23 : vmT 48 23 = some ((2, [(15, 323), (16, 342), (17, 323), (18, 323), (19, 323), (20, 323), (21, 323), (22, 332), (23, 332), (24, 332), (25, 332), (26, 332), (27, 308), (28, 308), (29, 308), (30, 322), (31, 331), (32, 322)])) := rfl
theorem mV_49_28 : vmT 49 28 = some ((3, [(17, 251)])) := rfl
theorem mV_49_34 : vmT 49 34 = some ((3, [(15, 311), (16, 311), (17, 311), (18, 311), (19, 311), (20, 311), (21, 311), (22, 311), (23, 311), (24, 311), (25, 311), (26, 311), (27, 311), (28, 311), (29, 311), (30, 311), (31, 311), (32, 311)])) := rfl
theorem mV_50_22 : vmT 50 22 = some ((3, [(18, 251), (19, 251)])) := rfl
theorem mV_50_38 : vmT 50 38 = some ((3, [(18, 352), (19, 352)])) := rfl
theorem mV_50_46 : vmT 50 46 = some ((3, [(15, 311), (16, 311), (17, 311), (18, 311), (19, 311), (20, 311), (21, 311), (22, 311), (23, 311), (24, 311), (25, 311), (26, 311), (27, 311), (28, 311), (29, 311), (30, 311), (31, 311), (32, 311)])) := rfl
theorem mV_51_33 : vmT 51 33 = some ((3, [(19, 251)])) := rfl
theorem mV_52_47 : vmT 52 47 = some ((3, [(20, 251)])) := rfl
theorem mV_52_53 : vmT 52 53 = some ((3, [(15, 311), (16, 311), (17, 311), (18, 311), (19, 311), (20, 311), (21, 311), (22, 311), (23, 311), (24, 311), (25, 311), (26, 311), (27, 311), (28, 311), (29, 311), (30, 311), (31, 311), (32, 311)])) := rfl
theorem mV_53_40 : vmT 53 40 = some ((2, [(21, 278)])) := rfl
theorem mV_53_46 : vmT 53 46 = some ((3, [(21, 251)])) := rfl
theorem mV_53_55 : vmT 53 55 = some ((3, [(15, 311), (16, 311), (17, 311), (18, 311), (19, 311), (20, 311), (21, 311), (22, 311), (23, 311), (24, 311), (25, 311), (26, 311), (27, 311), (28, 311), (29, 311), (30, 311), (31, 311), (32, 311)])) := rfl
theorem mV_54_18 : vmT 54 18 = some ((2, [(15, 250), (16, 254), (17, 255), (18, 255), (19, 255), (20, 255), (21, 255), (22, 253), (23, 253), (24, 253), (25, 253), (26, 253), (27, 247), (28, 247), (29, 247), (30, 256), (31, 249), (32, 248)])) := rfl
theorem mV_54_22 : vmT 54 22 = some ((1, [(22, 295), (23, 283), (24, 286), (25, 292), (26, 284)])) := rfl
theorem mV_54_32 : vmT 54 32 = some ((1, [(22, 341), (23, 333), (24, 335), (25, 340), (26, 334)])) := rfl
theorem mV_54_35 : vmT 54 35 = some ((2, [(15, 323), (16, 342), (17, 323), (18, 323), (19, 323), (20, 323), (21, 323), (22, 332), (23, 332), (24, 332), (25, 332), (26, 332), (27, 308), (28, 308), (29, 308), (30, 322), (31, 331), (32, 322)])) := rfl
theorem mV_54_56 : vmT 54 56 = some ((3, [(22, 251), (23, 251), (24, 251), (25, 251), (26, 251)])) := rfl
theorem mV_55_32 : vmT 55 32 = some ((3, [(22, 251)])) := rfl
theorem mV_55_36 : vmT 55 36 = some ((3, [(15, 311), (16, 311), (17, 311), (18, 311), (19, 311), (20, 311), (21, 311), (22, 311), (23, 311), (24, 311), (25, 311), (26, 311), (27, 311), (28, 311), (29, 311), (30, 311), (31, 311), (32, 311)])) := rfl
theorem mV_56_32 : vmT 56 32 = some ((3, [(23, 251)])) := rfl
theorem mV_56_38 : vmT 56 38 = some ((3, [(15, 311), (16, 311), (17, 311), (18, 311), (19, 311), (20, 311), (21, 311), (22, 311), (23, 311), (24, 311), (25, 311), (26, 311), (27, 311), (28, 311), (29, 311), (30, 311), (31, 311), (32, 311)])) := rfl
theorem mV_57_22 : vmT 57 22 = some ((5, [(24, 289), (25, 289)])) := rfl
theorem mV_57_26 : vmT 57 26 = some ((3, [(24, 290), (25, 290)])) := rfl
theorem mV_57_36 : vmT 57 36 = some ((3, [(24, 251), (25, 251)])) := rfl
theorem mV_57_48 : vmT 57 48 = some ((3, [(15, 311), (16, 311), (17, 311), (18, 311), (19, 311), (20, 311), (21, 311), (22, 311), (23, 311), (24, 311), (25, 311), (26, 311), (27, 311), (28, 311), (29, 311), (30, 311), (31, 311), (32, 311)])) := rfl
theorem mV_58_25 : vmT 58 25 = some ((5, [(24, 287)])) := rfl
theorem mV_58_29 : vmT 58 29 = some ((1, [(24, 291)])) := rfl
theorem mV_58_35 : vmT 58 35 = some ((5, [(24, 293)])) := rfl
theorem mV_58_38 : vmT 58 38 = some ((2, [(24, 338)])) := rfl
theorem mV_59_25 : vmT 59 25 = some ((5, [(25, 293)])) := rfl
theorem mV_59_29 : vmT 59 29 = some ((1, [(25, 291)])) := rfl
theorem mV_59_35 : vmT 59 35 = some ((5, [(25, 287)])) := rfl
theorem mV_59_38 : vmT 59 38 = some ((2, [(25, 338)])) := rfl
theorem mV_60_35 : vmT 60 35 = some ((3, [(26, 251)])) := rfl
theorem mV_60_45 : vmT 60 45 = some ((3, [(15, 311), (16, 311), (17, 311), (18, 311), (19, 311), (20, 311), (21, 311), (22, 311), (23, 311), (24, 311), (25, 311), (26, 311), (27, 311), (28, 311), (29, 311), (30, 311), (31, 311), (32, 311)])) := rfl
theorem mV_62_18 : vmT 62 18 = some ((2, [(15, 250), (16, 254), (17, 255), (18, 255), (19, 255), (20, 255), (21, 255), (22, 253), (23, 253), (24, 253), (25, 253), (26, 253), (27, 247), (28, 247), (29, 247), (30, 256), (31, 249), (32, 248)])) := rfl
theorem mV_62_24 : vmT 62 24 = some ((1, [(27, 301), (28, 306), (29, 305)])) := rfl
theorem mV_62_41 : vmT 62 41 = some ((1, [(27, 309), (28, 321), (29, 317)])) := rfl
theorem mV_62_44 : vmT 62 44 = some ((2, [(15, 323), (16, 342), (17, 323), (18, 323), (19, 323), (20, 323), (21, 323), (22, 332), (23, 332), (24, 332), (25, 332), (26, 332), (27, 308), (28, 308), (29, 308), (30, 322), (31, 331), (32, 322)])) := rfl
theorem mV_63_13 : vmT 63 13 = some ((1, [(15, 126), (16, 128), (17, 134), (18, 134), (19, 134), (20, 134), (21, 134), (22, 127), (23, 127), (24, 127), (25, 127), (26, 127), (27, 124), (28, 124), (29, 124), (30, 124), (31, 125), (32, 124)])) := rfl
theorem mV_63_49 : vmT 63 49 = some ((2, [(15, 302), (16, 302), (17, 302), (18, 302), (19, 302), (20, 302), (21, 302), (22, 302), (23, 302), (24, 302), (25, 302), (26, 302), (27, 302), (28, 302), (29, 302), (30, 302), (31, 302), (32, 302)])) := rfl
theorem mV_63_53 : vmT 63 53 = some ((2, [(27, 303)])) := rfl
theorem mV_63_56 : vmT 63 56 = some ((3, [(27, 252)])) := rfl
theorem mV_63_61 : vmT 63 61 = some ((2, [(15, 310), (16, 310), (17, 310), (18, 310), (19, 310), (20, 310), (21, 310), (22, 310), (23, 310), (24, 310), (25, 310), (26, 310), (27, 310), (28, 310), (29, 310), (30, 310), (31, 310), (32, 310)])) := rfl
theorem mV_63_65 : vmT 63 65 = some ((3, [(27, 313)])) := rfl
theorem mV_63_68 : vmT 63 68 = some ((2, [(15, 316), (16, 314), (17, 316), (18, 316), (19, 316), (20, 316), (21, 316), (22, 316), (23, 316), (24, 316), (25, 316), (26, 316), (27, 316), (28, 316), (29, 316), (30, 316), (31, 316), (32, 316)])) := rfl
theorem mV_63_72 : vmT 63 72 = some ((3, [(15, 307), (16, 307), (17, 307), (18, 307), (19, 307), (20, 307), (21, 307), (22, 307), (23, 307), (24, 307), (25, 307), (26, 307), (27, 307), (28, 307), (29, 307), (30, 307), (31, 307), (32, 307)])) := rfl
theorem mV_63_74 : vmT 63 74 = some ((2, [(15, 312), (16, 312), (17, 312), (18, 312), (19, 312), (20, 312), (21, 312), (22, 312), (23, 312), (24, 312), (25, 312), (26, 312), (27, 312), (28, 312), (29, 312), (30, 312), (31, 312), (32, 312)])) := rfl
theorem mV_64_29 : vmT 64 29 = some ((3, [(28, 252)])) := rfl
theorem mV_64_38 : vmT 64 38 = some ((3, [(15, 311), (16, 311), (17, 311), (18, 311), (19, 311), (20, 311), (21, 311), (22, 311), (23, 311), (24, 311), (25, 311), (26, 311), (27, 311), (28, 311), (29, 311), (30, 311), (31, 311), (32, 311)])) := rfl
theorem mV_65_29 : vmT 65 29 = some ((3, [(29, 252)])) := rfl
theorem mV_65_33 : vmT 65 33 = some ((1, [(29, 318)])) := rfl
theorem mV_65_37 : vmT 65 37 = some ((1, [(29, 319)])) := rfl
theorem mV_65_40 : vmT 65 40 = some ((1, [(29, 320)])) := rfl
theorem mV_65_44 : vmT 65 44 = some ((3, [(15, 307), (16, 307), (17, 307), (18, 307), (19, 307), (20, 307), (21, 307), (22, 307), (23, 307), (24, 307), (25, 307), (26, 307), (27, 307), (28, 307), (29, 307), (30, 307), (31, 307), (32, 307)])) := rfl
theorem mV_66_13 : vmT 66 13 = some ((2, [(15, 250), (16, 254), (17, 255), (18, 255), (19, 255), (20, 255), (21, 255), (22, 253), (23, 253), (24, 253), (25, 253), (26, 253), (27, 247), (28, 247), (29, 247), (30, 256), (31, 249), (32, 248)])) := rfl
theorem mV_66_26 : vmT 66 26 = some ((3, [(30, 252)])) := rfl
theorem mV_66_32 : vmT 66 32 = some ((3, [(15, 307), (16, 307), (17, 307), (18, 307), (19, 307), (20, 307), (21, 307), (22, 307), (23, 307), (24, 307), (25, 307), (26, 307), (27, 307), (28, 307), (29, 307), (30, 307), (31, 307), (32, 307)])) := rfl
theorem mV_66_35 : vmT 66 35 = some ((2, [(15, 323), (16, 342), (17, 323), (18, 323), (19, 323), (20, 323), (21, 323), (22, 332), (23, 332), (24, 332), (25, 332), (26, 332), (27, 308), (28, 308), (29, 308), (30, 322), (31, 331), (32, 322)])) := rfl
theorem mV_67_19 : vmT 67 19 = some ((1, [(15, 126), (16, 128), (17, 134), (18, 134), (19, 134), (20, 134), (21, 134), (22, 127), (23, 127), (24, 127), (25, 127), (26, 127), (27, 124), (28, 124), (29, 124), (30, 124), (31, 125), (32, 124)])) := rfl
theorem mV_67_23 : vmT 67 23 = some ((2, [(15, 250), (16, 254), (17, 255), (18, 255), (19, 255), (20, 255), (21, 255), (22, 253), (23, 253), (24, 253), (25, 253), (26, 253), (27, 247), (28, 247), (29, 247), (30, 256), (31, 249), (32, 248)])) := rfl
theorem mV_67_31 : vmT 67 31 = some ((2, [(31, 296)])) := rfl
theorem mV_67_54 : vmT 67 54 = some ((3, [(31, 251)])) := rfl
theorem mV_67_58 : vmT 67 58 = some ((3, [(31, 252)])) := rfl
theorem mV_67_67 : vmT 67 67 = some ((1, [(31, 125)])) := rfl
theorem mV_67_70 : vmT 67 70 = some ((2, [(15, 323), (16, 342), (17, 323), (18, 323), (19, 323), (20, 323), (21, 323), (22, 332), (23, 332), (24, 332), (25, 332), (26, 332), (27, 308), (28, 308), (29, 308), (30, 322), (31, 331), (32, 322)])) := rfl
theorem mV_67_73 : vmT 67 73 = some ((2, [(15, 310), (16, 310), (17, 310), (18, 310), (19, 310), (20, 310), (21, 310), (22, 310), (23, 310), (24, 310), (25, 310), (26, 310), (27, 310), (28, 310), (29, 310), (30, 310), (31, 310), (32, 310)])) := rfl
theorem mV_67_76 : vmT 67 76 = some ((2, [(15, 302), (16, 302), (17, 302), (18, 302), (19, 302), (20, 302), (21, 302), (22, 302), (23, 302), (24, 302), (25, 302), (26, 302), (27, 302), (28, 302), (29, 302), (30, 302), (31, 302), (32, 302)])) := rfl
theorem mV_67_80 : vmT 67 80 = some ((3, [(15, 307), (16, 307), (17, 307), (18, 307), (19, 307), (20, 307), (21, 307), (22, 307), (23, 307), (24, 307), (25, 307), (26, 307), (27, 307), (28, 307), (29, 307), (30, 307), (31, 307), (32, 307)])) := rfl
theorem mV_68_17 : vmT 68 17 = some ((2, [(15, 250), (16, 254), (17, 255), (18, 255), (19, 255), (20, 255), (21, 255), (22, 253), (23, 253), (24, 253), (25, 253), (26, 253), (27, 247), (28, 247), (29, 247), (30, 256), (31, 249), (32, 248)])) := rfl
theorem mV_68_25 : vmT 68 25 = some ((2, [(32, 297)])) := rfl
theorem mV_68_31 : vmT 68 31 = some ((2, [(32, 298)])) := rfl
theorem mV_68_40 : vmT 68 40 = some ((2, [(32, 300)])) := rfl
theorem mV_68_50 : vmT 68 50 = some ((3, [(32, 252)])) := rfl
theorem mV_68_58 : vmT 68 58 = some ((2, [(32, 325)])) := rfl
theorem mV_68_61 : vmT 68 61 = some ((2, [(32, 330)])) := rfl
theorem mV_68_67 : vmT 68 67 = some ((2, [(15, 312), (16, 312), (17, 312), (18, 312), (19, 312), (20, 312), (21, 312), (22, 312), (23, 312), (24, 312), (25, 312), (26, 312), (27, 312), (28, 312), (29, 312), (30, 312), (31, 312), (32, 312)])) := rfl
theorem mV_68_70 : vmT 68 70 = some ((2, [(15, 323), (16, 342), (17, 323), (18, 323), (19, 323), (20, 323), (21, 323), (22, 332), (23, 332), (24, 332), (25, 332), (26, 332), (27, 308), (28, 308), (29, 308), (30, 322), (31, 331), (32, 322)])) := rfl
theorem mV_68_73 : vmT 68 73 = some ((2, [(15, 329), (16, 326), (17, 329), (18, 329), (19, 329), (20, 329), (21, 329), (22, 329), (23, 329), (24, 329), (25, 329), (26, 329), (27, 329), (28, 329), (29, 329), (30, 329), (31, 329), (32, 329)])) := rfl
theorem mV_68_89 : vmT 68 89 = some ((3, [(15, 311), (16, 311), (17, 311), (18, 311), (19, 311), (20, 311), (21, 311), (22, 311), (23, 311), (24, 311), (25, 311), (26, 311), (27, 311), (28, 311), (29, 311), (30, 311), (31, 311), (32, 311)])) := rfl
def ifT_31 : List (Nat × Nat × List (Nat × Nat)) := [(143, (1, [(7, 393), (8, 393), (9, 393), (10, 393), (11, 393)]))]
def ifT_33 : List (Nat × Nat × List (Nat × Nat)) := [(109, (1, [(7, 242), (8, 243), (9, 241), (10, 241), (11, 241)]))]
def ifT_55 : List (Nat × Nat × List (Nat × Nat)) := [(39, (4, [(22, 336), (24, 336)]))]
def ifT_58 : List (Nat × Nat × List (Nat × Nat)) := [(42, (4, [(22, 336), (24, 336)]))]
def ifT_70 : List (Nat × Nat × List (Nat × Nat)) := [(1, (1, [(7, 242), (8, 243), (9, 241), (10, 241), (11, 241)])), (7, (1, [(7, 236), (8, 237), (9, 239), (10, 238), (11, 235)]))]
def ifT_71 : List (Nat × Nat × List (Nat × Nat)) := [(1, (4, [(22, 339), (24, 337)]))]
def ifTL : List (Nat × List (Nat × Nat × List (Nat × Nat))) := [(31, ifT_31), (33, ifT_33), (55, ifT_55), (58, ifT_58), (70, ifT_70), (71, ifT_71)]
def ifT (o i : Nat) : Option (Nat × List (Nat × Nat)) := tb ifTL o i
theorem mF_31_143 : ifT 31 143 = some ((1, [(7, 393), (8, 393), (9, 393), (10, 393), (11, 393)])) := rfl
theorem mF_33_109 : ifT 33 109 = some ((1, [(7, 242), (8, 243), (9, 241), (10, 241), (11, 241)])) := rfl
theorem mF_55_39 : ifT 55 39 = some ((4, [(22, 336), (24, 336)])) := rfl
theorem mF_58_42 : ifT 58 42 = some ((4, [(22, 336), (24, 336)])) := rfl
theorem mF_70_1 : ifT 70 1 = some ((1, [(7, 242), (8, 243), (9, 241), (10, 241), (11, 241)])) := rfl
theorem mF_70_7 : ifT 70 7 = some ((1, [(7, 236), (8, 237), (9, 239), (10, 238), (11, 235)])) := rfl
theorem mF_71_1 : ifT 71 1 = some ((4, [(22, 339), (24, 337)])) := rfl
def fitL (k : Nat) : List Nat × List Nat := if k < 214 then (if k < 212 then (if k < 211 then (if k = 210 then ([13, 302], [0, 1, 2, 3, 4, 5, 6, 7, 8, 9, 10, 11, 12, 14, 15, 16, 17, 18, 19, 20, 21, 22, 23, 24, 25, 26, 27, 28, 29, 30, 31, 32, 33, 34, 35, 36, 37, 38, 39, 40, 41, 42, 43, 44, 200, 201, 202, 203, 204, 205, 206, 207, 210, 211, 212, 213, 214, 215, 216, 217, 218]) else ([], [])) else (if k = 211 then ([7, 8, 9, 10, 11], [0, 1, 2, 3, 4, 5, 6, 12, 13, 15, 16, 17, 18, 19, 20, 21, 22, 23, 24, 25, 26, 27, 28, 29, 30, 31, 32, 33, 34, 35, 36, 37, 38, 39, 40, 41, 42, 43, 44, 200, 201, 202, 203, 204, 205, 206, 207, 210, 211, 212, 213, 214, 215, 216, 217, 218]) else ([], []))) else (if k < 213 then (if k = 212 then ([15, 16, 17, 18, 19, 20, 21, 22, 23, 24, 25, 26, 27, 28, 29, 30, 31, 32], [0, 1, 2, 3, 4, 5, 6, 7, 8, 9, 10, 11, 12, 13, 14, 33, 34, 35, 36, 37, 38, 39, 40, 41, 42, 43, 44, 200, 201, 202, 203, 204, 205, 206, 207, 210, 211, 212, 213, 214, 215, 216, 217, 218]) else ([], [])) else (if k = 213 then ([36], [0, 1, 2, 3, 4, 5, 6, 7, 8, 9, 10, 11, 12, 13, 14, 15, 16, 17, 18, 19, 20, 21, 22, 23, 24, 25, 26, 27, 28, 29, 30, 31, 32, 33, 34, 35, 37, 38, 39, 40, 41, 42, 43, 44, 200, 201, 202, 203, 204, 205, 206, 207, 210, 211, 212, 213, 214, 215, 216, 217, 218]) else ([], [])))) else (if k < 216 then (if k < 215 then (if k = 214 then ([7], [0, 1, 2, 3, 4, 5, 6, 8, 9, 10, 11, 12, 13, 14, 15, 16, 17, 18, 19, 20, 21, 22, 23, 24, 25, 26, 27, 28, 29, 30, 31, 32, 33, 34, 35, 36, 37, 38, 39, 40, 41, 42, 43, 44, 200, 201, 202, 203, 204, 205, 206, 207, 210, 211, 212, 213, 214, 215, 216, 217, 218]) else ([], [])) else (if k = 215 then ([8], [0, 1, 2, 3, 4, 5, 6, 7, 9, 10, 11, 12, 13, 14, 15, 16, 17, 18, 19, 20, 21, 22, 23, 24, 25, 26, 27, 28, 29, 30, 31, 32, 33, 34, 35, 36, 37, 38, 39, 40, 41, 42, 43, 44, 200, 201, 202, 203, 204, 205, 206, 207, 210, 211, 212, 213, 214, 215, 216, 217, 218]) else ([], []))) else (if k < 217 then (if k = 216 then ([9], [0, 1, 2, 3, 4, 5, 6, 7, 8, 10, 11, 12, 13, 14, 15, 16, 17, 18, 19, 20, 21, 22, 23, 24, 25, 26, 27, 28, 29, 30, 31, 32, 33, 34, 35, 36, 37, 38, 39, 40, 41, 42, 43, 44, 200, 201, 202, 203, 204, 205, 206, 207, 210, 211, 212, 213, 214, 215, 216, 217, 218]) else ([], [])) else (if k < 218 then (if k = 217 then ([10], [0, 1, 2, 3, 4, 5, 6, 7, 8, 9, 11, 12, 13, 14, 15, 16, 17, 18, 19, 20, 21, 22, 23, 24, 25, 26, 27, 28, 29, 30, 31, 32, 33, 34, 35, 36, 37, 38, 39, 40, 41, 42, 43, 44, 200, 201, 202, 203, 204, 205, 206, 207, 210, 211, 212, 213, 214, 215, 216, 217, 218]) else ([], [])) else (if k = 218 then ([11], [0, 1, 2, 3, 4, 5, 6, 7, 8, 9, 10, 12, 13, 14, 15, 16, 17, 18, 19, 20, 21, 22, 23, 24, 25, 26, 27, 28, 29, 30, 31, 32, 33, 34, 35, 36, 37, 38, 39, 40, 41, 42, 43, 44, 200, 201, 202, 203, 204, 205, 206, 207, 210, 211, 212, 213, 214, 215, 216, 217, 218]) else ([], [])))))
def fitA (a k : Nat) : Option Bool := if (fitL a).1.contains k = true then some true else if (fitL a).2.contains k = true then some false else none
theorem fA_210_13 : fitA 210 13 = some true := rfl
theorem fA_210_302 : fitA 210 302 = some true := rfl
theorem fA_210_0 : fitA 210 0 = some false := rfl
theorem fA_210_1 : fitA 210 1 = some false := rfl
theorem fA_210_2 : fitA 210 2 = some false := rfl
theorem fA_210_3 : fitA 210 3 = some false := rfl
theorem fA_210_4 : fitA 210 4 = some false := rfl
theorem fA_210_5 : fitA 210 5 = some false := rfl
theorem fA_210_6 : fitA 210 6 = some false := rfl
theorem fA_210_7 : fitA 210 7 = some false := rfl
theorem fA_210_8 : fitA 210 8 = some false := rfl
theorem fA_210_9 : fitA 210 9 = some false := rfl
theorem fA_210_10 : fitA 210 10 = some false := rfl
theorem fA_210_11 : fitA 210 11 = some false := rfl
theorem fA_210_12 : fitA 210 12 = some false := rfl
theorem fA_210_14 : fitA 210 14 = some false := rfl
theorem fA_210_15 : fitA 210 15 = some false := rfl
theorem fA_210_16 : fitA 210 16 = some false := rfl
theorem fA_210_17 : fitA 210 17 = some false := rfl
theorem fA_210_18 : fitA 210 18 = some false := rfl
theorem fA_210_19 : fitA 210 19 = some false := rfl
theorem fA_210_20 : fitA 210 20 = some false := rfl
theorem fA_210_21 : fitA 210 21 = some false := rfl
theorem fA_210_22 : fitA 210 22 = some false := rfl
theorem fA_210_23 : fitA 210 23 = some false := rfl
theorem fA_210_24 : fitA 210 24 = some false := rfl
theorem fA_210_25 : fitA 210 25 = some false := rfl
theorem fA_210_26 : fitA 210 26 = some false := rfl
theorem fA_210_27 : fitA 210 27 = some false := rfl
theorem fA_210_28 : fitA 210 28 = some false := rfl
theorem fA_210_29 : fitA 210 29 = some false := rfl
theorem fA_210_30 : fitA 210 30 = some false := rfl
theorem fA_210_31 : fitA 210 31 = some false := rfl
theorem fA_210_32 : fitA 210 32 = some false := rfl
theorem fA_210_33 : fitA 210 33 = some false := rfl
theorem fA_210_34 : fitA 210 34 = some false := rfl
theorem fA_210_35 : fitA 210 35 = some false := rfl
theorem fA_210_36 : fitA 210 36 = some false := rfl
theorem fA_210_37 : fitA 210 37 = some false := rfl
theorem fA_210_38 : fitA 210 38 = some false := rfl
theorem fA_210_39 : fitA 210 39 = some false := rfl
theorem fA_210_40 : fitA 210 40 = some false := rfl
theorem fA_210_41 : fitA 210 41 = some false := rfl
theorem fA_210_42 : fitA 210 42 = some false := rfl
theorem fA_210_43 : fitA 210 43 = some false := rfl
theorem fA_210_44 : fitA 210 44 = some false := rfl
theorem fA_211_7 : fitA 211 7 = some true := rfl
theorem fA_211_8 : fitA 211 8 = some true := rfl
theorem fA_211_9 : fitA 211 9 = some true := rfl
theorem fA_211_10 : fitA 211 10 = some true := rfl
theorem fA_211_11 : fitA 211 11 = some true := rfl
theorem fA_211_0 : fitA 211 0 = some false := rfl
theorem fA_211_1 : fitA 211 1 = some false := rfl
theorem fA_211_2 : fitA 211 2 = some false := rfl
theorem fA_211_3 : fitA 211 3 = some false := rfl
theorem fA_211_4 : fitA 211 4 = some false := rfl
theorem fA_211_5 : fitA 211 5 = some false := rfl
theorem fA_211_6 : fitA 211 6 = some false := rfl
theorem fA_211_12 : fitA 211 12 = some false := rfl
theorem fA_211_13 : fitA 211 13 = some false := rfl
theorem fA_211_15 : fitA 211 15 = some false := rfl
theorem fA_211_16 : fitA 211 16 = some false := rfl
theorem fA_211_17 : fitA 211 17 = some false := rfl
theorem fA_211_18 : fitA 211 18 = some false := rfl
theorem fA_211_19 : fitA 211 19 = some false := rfl
theorem fA_211_20 : fitA 211 20 = some false := rfl
theorem fA_211_21 : fitA 211 21 = some false := rfl
theorem fA_211_22 : fitA 211 22 = some false := rfl
theorem fA_211_23 : fitA 211 23 = some false := rfl
theorem fA_211_24 : fitA 211 24 = some false := rfl
theorem fA_211_25 : fitA 211 25 = some false := rfl
theorem fA_211_26 : fitA 211 26 = some false := rfl
theorem fA_211_27 : fitA 211 27 = some false := rfl
theorem fA_211_28 : fitA 211 28 = some false := rfl
theorem fA_211_29 : fitA 211 29 = some false := rfl
theorem fA_211_30 : fitA 211 30 = some false := rfl
theorem fA_211_31 : fitA 211 31 = some false := rfl
theorem fA_211_32 : fitA 211 32 = some false := rfl
theorem fA_211_33 : fitA 211 33 = some false := rfl
theorem fA_211_34 : fitA 211 34 = some false := rfl
theorem fA_211_35 : fitA 211 35 = some false := rfl
theorem fA_211_36 : fitA 211 36 = some false := rfl
theorem fA_211_37 : fitA 211 37 = some false := rfl
theorem fA_211_38 : fitA 211 38 = some false := rfl
theorem fA_211_39 : fitA 211 39 = some false := rfl
theorem fA_211_40 : fitA 211 40 = some false := rfl
theorem fA_211_41 : fitA 211 41 = some false := rfl
theorem fA_211_42 : fitA 211 42 = some false := rfl
theorem fA_211_43 : fitA 211 43 = some false := rfl
theorem fA_211_44 : fitA 211 44 = some false := rfl
theorem fA_212_15 : fitA 212 15 = some true := rfl
theorem fA_212_16 : fitA 212 16 = some true := rfl
theorem fA_212_17 : fitA 212 17 = some true := rfl
theorem fA_212_18 : fitA 212 18 = some true := rfl
theorem fA_212_19 : fitA 212 19 = some true := rfl
theorem fA_212_20 : fitA 212 20 = some true := rfl
theorem fA_212_21 : fitA 212 21 = some true := rfl
theorem fA_212_22 : fitA 212 22 = some true := rfl
theorem fA_212_23 : fitA 212 23 = some true := rfl
theorem fA_212_24 : fitA 212 24 = some true := rfl
theorem fA_212_25 : fitA 212 25 = some true := rfl
theorem fA_212_26 : fitA 212 26 = some true := rfl
theorem fA_212_27 : fitA 212 27 = some true := rfl
theorem fA_212_28 : fitA 212 28 = some true := rfl
theorem fA_212_29 : fitA 212 29 = some true := rfl
theorem fA_212_30 : fitA 212 30 = some true := rfl
theorem fA_212_31 : fitA 212 31 = some true := rfl
theorem fA_212_32 : fitA 212 32 = some true := rfl
theorem fA_212_0 : fitA 212 0 = some false := rfl
theorem fA_212_1 : fitA 212 1 = some false := rfl
theorem fA_212_2 : fitA 212 2 = some false := rfl
theorem fA_212_3 : fitA 212 3 = some false := rfl
theorem fA_212_4 : fitA 212 4 = some false := rfl
theorem fA_212_5 : fitA 212 5 = some false := rfl
theorem fA_212_6 : fitA 212 6 = some false := rfl
theorem fA_212_7 : fitA 212 7 = some false := rfl
theorem fA_212_8 : fitA 212 8 = some false := rfl
theorem fA_212_9 : fitA 212 9 = some false := rfl
theorem fA_212_10 : fitA 212 10 = some false := rfl
theorem fA_212_11 : fitA 212 11 = some false := rfl
theorem fA_212_12 : fitA 212 12 = some false := rfl
theorem fA_212_13 : fitA 212 13 = some false := rfl
theorem fA_212_14 : fitA 212 14 = some false := rfl
theorem fA_212_33 : fitA 212 33 = some false := rfl
theorem fA_212_34 : fitA 212 34 = some false := rfl
theorem fA_212_35 : fitA 212 35 = some false := rfl
theorem fA_212_36 : fitA 212 36 = some false := rfl
theorem fA_212_37 : fitA 212 37 = some false := rfl
theorem fA_212_38 : fitA 212 38 = some false := rfl
theorem fA_212_39 : fitA 212 39 = some false := rfl
theorem fA_212_40 : fitA 212 40 = some false := rfl
theorem fA_212_41 : fitA 212 41 = some false := rfl
theorem fA_212_42 : fitA 212 42 = some false := rfl
theorem fA_212_43 : fitA 212 43 = some false := rfl
theorem fA_212_44 : fitA 212 44 = some false := rfl
theorem fA_213_36 : fitA 213 36 = some true := rfl
theorem fA_213_0 : fitA 213 0 = some false := rfl
theorem fA_213_1 : fitA 213 1 = some false := rfl
theorem fA_213_2 : fitA 213 2 = some false := rfl
theorem fA_213_3 : fitA 213 3 = some false := rfl
theorem fA_213_4 : fitA 213 4 = some false := rfl
theorem fA_213_5 : fitA 213 5 = some false := rfl
theorem fA_213_6 : fitA 213 6 = some false := rfl
theorem fA_213_7 : fitA 213 7 = some false := rfl
theorem fA_213_8 : fitA 213 8 = some false := rfl
theorem fA_213_9 : fitA 213 9 = some false := rfl
theorem fA_213_10 : fitA 213 10 = some false := rfl
theorem fA_213_11 : fitA 213 11 = some false := rfl
theorem fA_213_12 : fitA 213 12 = some false := rfl
theorem fA_213_13 : fitA 213 13 = some false := rfl
theorem fA_213_14 : fitA 213 14 = some false := rfl
theorem fA_213_15 : fitA 213 15 = some false := rfl
theorem fA_213_16 : fitA 213 16 = some false := rfl
theorem fA_213_17 : fitA 213 17 = some false := rfl
theorem fA_213_18 : fitA 213 18 = some false := rfl
theorem fA_213_19 : fitA 213 19 = some false := rfl
theorem fA_213_20 : fitA 213 20 = some false := rfl
theorem fA_213_21 : fitA 213 21 = some false := rfl
theorem fA_213_22 : fitA 213 22 = some false := rfl
theorem fA_213_23 : fitA 213 23 = some false := rfl
theorem fA_213_24 : fitA 213 24 = some false := rfl
theorem fA_213_25 : fitA 213 25 = some false := rfl
theorem fA_213_26 : fitA 213 26 = some false := rfl
theorem fA_213_27 : fitA 213 27 = some false := rfl
theorem fA_213_28 : fitA 213 28 = some false := rfl
theorem fA_213_29 : fitA 213 29 = some false := rfl
theorem fA_213_30 : fitA 213 30 = some false := rfl
theorem fA_213_31 : fitA 213 31 = some false := rfl
theorem fA_213_32 : fitA 213 32 = some false := rfl
theorem fA_213_33 : fitA 213 33 = some false := rfl
theorem fA_213_34 : fitA 213 34 = some false := rfl
theorem fA_213_35 : fitA 213 35 = some false := rfl
theorem fA_213_37 : fitA 213 37 = some false := rfl
theorem fA_213_38 : fitA 213 38 = some false := rfl
theorem fA_213_39 : fitA 213 39 = some false := rfl
theorem fA_213_40 : fitA 213 40 = some false := rfl
theorem fA_213_41 : fitA 213 41 = some false := rfl
theorem fA_213_42 : fitA 213 42 = some false := rfl
theorem fA_213_43 : fitA 213 43 = some false := rfl
theorem fA_213_44 : fitA 213 44 = some false := rfl
theorem fA_214_7 : fitA 214 7 = some true := rfl
theorem fA_214_0 : fitA 214 0 = some false := rfl
theorem fA_214_1 : fitA 214 1 = some false := rfl
theorem fA_214_2 : fitA 214 2 = some false := rfl
theorem fA_214_3 : fitA 214 3 = some false := rfl
theorem fA_214_4 : fitA 214 4 = some false := rfl
theorem fA_214_5 : fitA 214 5 = some false := rfl
theorem fA_214_6 : fitA 214 6 = some false := rfl
theorem fA_214_8 : fitA 214 8 = some false := rfl
theorem fA_214_9 : fitA 214 9 = some false := rfl
theorem fA_214_10 : fitA 214 10 = some false := rfl
theorem fA_214_11 : fitA 214 11 = some false := rfl
theorem fA_214_12 : fitA 214 12 = some false := rfl
theorem fA_214_13 : fitA 214 13 = some false := rfl
theorem fA_214_14 : fitA 214 14 = some false := rfl
theorem fA_214_15 : fitA 214 15 = some false := rfl
theorem fA_214_16 : fitA 214 16 = some false := rfl
theorem fA_214_17 : fitA 214 17 = some false := rfl
theorem fA_214_18 : fitA 214 18 = some false := rfl
theorem fA_214_19 : fitA 214 19 = some false := rfl
theorem fA_214_20 : fitA 214 20 = some false := rfl
theorem fA_214_21 : fitA 214 21 = some false := rfl
theorem fA_214_22 : fitA 214 22 = some false := rfl
theorem fA_214_23 : fitA 214 23 = some false := rfl
theorem fA_214_24 : fitA 214 24 = some false := rfl
theorem fA_214_25 : fitA 214 25 = some false := rfl
theorem fA_214_26 : fitA 214 26 = some false := rfl
theorem fA_214_27 : fitA 214 27 = some false := rfl
theorem fA_214_28 : fitA 214 28 = some false := rfl
theorem fA_214_29 : fitA 214 29 = some false := rfl
theorem fA_214_30 : fitA 214 30 = some false := rfl
theorem fA_214_31 : fitA 214 31 = some false := rfl
theorem fA_214_32 : fitA 214 32 = some false := rfl
theorem fA_214_33 : fitA 214 33 = some false := rfl
theorem fA_214_34 : fitA 214 34 = some false := rfl
theorem fA_214_35 : fitA 214 35 = some false := rfl
theorem fA_214_36 : fitA 214 36 = some false := rfl
theorem fA_214_37 : fitA 214 37 = some false := rfl
theorem fA_214_38 : fitA 214 38 = some false := rfl
theorem fA_214_39 : fitA 214 39 = some false := rfl
theorem fA_214_40 : fitA 214 40 = some false := rfl
theorem fA_214_41 : fitA 214 41 = some false := rfl
theorem fA_214_42 : fitA 214 42 = some false := rfl
theorem fA_214_43 : fitA 214 43 = some false := rfl
theorem fA_214_44 : fitA 214 44 = some false := rfl
theorem fA_215_8 : fitA 215 8 = some true := rfl
theorem fA_215_0 : fitA 215 0 = some false := rfl
theorem fA_215_1 : fitA 215 1 = some false := rfl
theorem fA_215_2 : fitA 215 2 = some false := rfl
theorem fA_215_3 : fitA 215 3 = some false := rfl
theorem fA_215_4 : fitA 215 4 = some false := rfl
theorem fA_215_5 : fitA 215 5 = some false := rfl
theorem fA_215_6 : fitA 215 6 = some false := rfl
theorem fA_215_7 : fitA 215 7 = some false := rfl
theorem fA_215_9 : fitA 215 9 = some false := rfl
theorem fA_215_10 : fitA 215 10 = some false := rfl
theorem fA_215_11 : fitA 215 11 = some false := rfl
theorem fA_215_12 : fitA 215 12 = some false := rfl
theorem fA_215_13 : fitA 215 13 = some false := rfl
theorem fA_215_14 : fitA 215 14 = some false := rfl
theorem fA_215_15 : fitA 215 15 = some false := rfl
theorem fA_215_16 : fitA 215 16 = some false := rfl
theorem fA_215_17 : fitA 215 17 = some false := rfl
theorem fA_215_18 : fitA 215 18 = some false := rfl
theorem fA_215_19 : fitA 215 19 = some false := rfl
theorem fA_215_20 : fitA 215 20 = some false := rfl
theorem fA_215_21 : fitA 215 21 = some false := rfl
theorem fA_215_22 : fitA 215 22 = some false := rfl
theorem fA_215_23 : fitA 215 23 = some false := rfl
theorem fA_215_24 : fitA 215 24 = some false := rfl
theorem fA_215_25 : fitA 215 25 = some false := rfl
theorem fA_215_26 : fitA 215 26 = some false := rfl
theorem fA_215_27 : fitA 215 27 = some false := rfl
theorem fA_215_28 : fitA 215 28 = some false := rfl
theorem fA_215_29 : fitA 215 29 = some false := rfl
theorem fA_215_30 : fitA 215 30 = some false := rfl
theorem fA_215_31 : fitA 215 31 = some false := rfl
theorem fA_215_32 : fitA 215 32 = some false := rfl
theorem fA_215_33 : fitA 215 33 = some false := rfl
theorem fA_215_34 : fitA 215 34 = some false := rfl
theorem fA_215_35 : fitA 215 35 = some false := rfl
theorem fA_215_36 : fitA 215 36 = some false := rfl
theorem fA_215_37 : fitA 215 37 = some false := rfl
theorem fA_215_38 : fitA 215 38 = some false := rfl
theorem fA_215_39 : fitA 215 39 = some false := rfl
theorem fA_215_40 : fitA 215 40 = some false := rfl
theorem fA_215_41 : fitA 215 41 = some false := rfl
theorem fA_215_42 : fitA 215 42 = some false := rfl
theorem fA_215_43 : fitA 215 43 = some false := rfl
theorem fA_215_44 : fitA 215 44 = some false := rfl
theorem fA_216_9 : fitA 216 9 = some true := rfl
theorem fA_216_0 : fitA 216 0 = some false := rfl
theorem fA_216_1 : fitA 216 1 = some false := rfl
theorem fA_216_2 : fitA 216 2 = some false := rfl
theorem fA_216_3 : fitA 216 3 = some false := rfl
theorem fA_216_4 : fitA 216 4 = some false := rfl
theorem fA_216_5 : fitA 216 5 = some false := rfl
theorem fA_216_6 : fitA 216 6 = some false := rfl
theorem fA_216_7 : fitA 216 7 = some false := rfl
theorem fA_216_8 : fitA 216 8 = some false := rfl
theorem fA_216_10 : fitA 216 10 = some false := rfl
theorem fA_216_11 : fitA 216 11 = some false := rfl
theorem fA_216_12 : fitA 216 12 = some false := rfl
theorem fA_216_13 : fitA 216 13 = some false := rfl
theorem fA_216_14 : fitA 216 14 = some false := rfl
theorem fA_216_15 : fitA 216 15 = some false := rfl
theorem fA_216_16 : fitA 216 16 = some false := rfl
theorem fA_216_17 : fitA 216 17 = some false := rfl
theorem fA_216_18 : fitA 216 18 = some false := rfl
theorem fA_216_19 : fitA 216 19 = some false := rfl
theorem fA_216_20 : fitA 216 20 = some false := rfl
theorem fA_216_21 : fitA 216 21 = some false := rfl
theorem fA_216_22 : fitA 216 22 = some false := rfl
theorem fA_216_23 : fitA 216 23 = some false := rfl
theorem fA_216_24 : fitA 216 24 = some false := rfl
theorem fA_216_25 : fitA 216 25 = some false := rfl
theorem fA_216_26 : fitA 216 26 = some false := rfl
theorem fA_216_27 : fitA 216 27 = some false := rfl
theorem fA_216_28 : fitA 216 28 = some false := rfl
theorem fA_216_29 : fitA 216 29 = some false := rfl
theorem fA_216_30 : fitA 216 30 = some false := rfl
theorem fA_216_31 : fitA 216 31 = some false := rfl
theorem fA_216_32 : fitA 216 32 = some false := rfl
theorem fA_216_33 : fitA 216 33 = some false := rfl
theorem fA_216_34 : fitA 216 34 = some false := rfl
theorem fA_216_35 : fitA 216 35 = some false := rfl
theorem fA_216_36 : fitA 216 36 = some false := rfl
theorem fA_216_37 : fitA 216 37 = some false := rfl
theorem fA_216_38 : fitA 216 38 = some false := rfl
theorem fA_216_39 : fitA 216 39 = some false := rfl
theorem fA_216_40 : fitA 216 40 = some false := rfl
theorem fA_216_41 : fitA 216 41 = some false := rfl
theorem fA_216_42 : fitA 216 42 = some false := rfl
theorem fA_216_43 : fitA 216 43 = some false := rfl
theorem fA_216_44 : fitA 216 44 = some false := rfl
theorem fA_217_10 : fitA 217 10 = some true := rfl
theorem fA_217_0 : fitA 217 0 = some false := rfl
theorem fA_217_1 : fitA 217 1 = some false := rfl
theorem fA_217_2 : fitA 217 2 = some false := rfl
theorem fA_217_3 : fitA 217 3 = some false := rfl
theorem fA_217_4 : fitA 217 4 = some false := rfl
theorem fA_217_5 : fitA 217 5 = some false := rfl
theorem fA_217_6 : fitA 217 6 = some false := rfl
theorem fA_217_7 : fitA 217 7 = some false := rfl
theorem fA_217_8 : fitA 217 8 = some false := rfl
theorem fA_217_9 : fitA 217 9 = some false := rfl
theorem fA_217_11 : fitA 217 11 = some false := rfl
theorem fA_217_12 : fitA 217 12 = some false := rfl
theorem fA_217_13 : fitA 217 13 = some false := rfl
theorem fA_217_14 : fitA 217 14 = some false := rfl
theorem fA_217_15 : fitA 217 15 = some false := rfl
theorem fA_217_16 : fitA 217 16 = some false := rfl
theorem fA_217_17 : fitA 217 17 = some false := rfl
theorem fA_217_18 : fitA 217 18 = some false := rfl
theorem fA_217_19 : fitA 217 19 = some false := rfl
theorem fA_217_20 : fitA 217 20 = some false := rfl
theorem fA_217_21 : fitA 217 21 = some false := rfl
theorem fA_217_22 : fitA 217 22 = some false := rfl
theorem fA_217_23 : fitA 217 23 = some false := rfl
theorem fA_217_24 : fitA 217 24 = some false := rfl
theorem fA_217_25 : fitA 217 25 = some false := rfl
theorem fA_217_26 : fitA 217 26 = some false := rfl
theorem fA_217_27 : fitA 217 27 = some false := rfl
theorem fA_217_28 : fitA 217 28 = some false := rfl
theorem fA_217_29 : fitA 217 29 = some false := rfl
theorem fA_217_30 : fitA 217 30 = some false := rfl
theorem fA_217_31 : fitA 217 31 = some false := rfl
theorem fA_217_32 : fitA 217 32 = some false := rfl
theorem fA_217_33 : fitA 217 33 = some false := rfl
theorem fA_217_34 : fitA 217 34 = some false := rfl
theorem fA_217_35 : fitA 217 35 = some false := rfl
theorem fA_217_36 : fitA 217 36 = some false := rfl
theorem fA_217_37 : fitA 217 37 = some false := rfl
theorem fA_217_38 : fitA 217 38 = some false := rfl
theorem fA_217_39 : fitA 217 39 = some false := rfl
theorem fA_217_40 : fitA 217 40 = some false := rfl
theorem fA_217_41 : fitA 217 41 = some false := rfl
theorem fA_217_42 : fitA 217 42 = some false := rfl
theorem fA_217_43 : fitA 217 43 = some false := rfl
theorem fA_217_44 : fitA 217 44 = some false := rfl
theorem fA_218_11 : fitA 218 11 = some true := rfl
theorem fA_218_0 : fitA 218 0 = some false := rfl
theorem fA_218_1 : fitA 218 1 = some false := rfl
theorem fA_218_2 : fitA 218 2 = some false := rfl
theorem fA_218_3 : fitA 218 3 = some false := rfl
theorem fA_218_4 : fitA 218 4 = some false := rfl
theorem fA_218_5 : fitA 218 5 = some false := rfl
theorem fA_218_6 : fitA 218 6 = some false := rfl
theorem fA_218_7 : fitA 218 7 = some false := rfl
theorem fA_218_8 : fitA 218 8 = some false := rfl
theorem fA_218_9 : fitA 218 9 = some false := rfl
theorem fA_218_10 : fitA 218 10 = some false := rfl
theorem fA_218_12 : fitA 218 12 = some false := rfl
theorem fA_218_13 : fitA 218 13 = some false := rfl
theorem fA_218_14 : fitA 218 14 = some false := rfl
theorem fA_218_15 : fitA 218 15 = some false := rfl
theorem fA_218_16 : fitA 218 16 = some false := rfl
theorem fA_218_17 : fitA 218 17 = some false := rfl
theorem fA_218_18 : fitA 218 18 = some false := rfl
theorem fA_218_19 : fitA 218 19 = some false := rfl
theorem fA_218_20 : fitA 218 20 = some false := rfl
theorem fA_218_21 : fitA 218 21 = some false := rfl
theorem fA_218_22 : fitA 218 22 = some false := rfl
theorem fA_218_23 : fitA 218 23 = some false := rfl
theorem fA_218_24 : fitA 218 24 = some false := rfl
theorem fA_218_25 : fitA 218 25 = some false := rfl
theorem fA_218_26 : fitA 218 26 = some false := rfl
theorem fA_218_27 : fitA 218 27 = some false := rfl
theorem fA_218_28 : fitA 218 28 = some false := rfl
theorem fA_218_29 : fitA 218 29 = some false := rfl
theorem fA_218_30 : fitA 218 30 = some false := rfl
theorem fA_218_31 : fitA 218 31 = some false := rfl
theorem fA_218_32 : fitA 218 32 = some false := rfl
theorem fA_218_33 : fitA 218 33 = some false := rfl
theorem fA_218_34 : fitA 218 34 = some false := rfl
theorem fA_218_35 : fitA 218 35 = some false := rfl
theorem fA_218_36 : fitA 218 36 = some false := rfl
theorem fA_218_37 : fitA 218 37 = some false := rfl
theorem fA_218_38 : fitA 218 38 = some false := rfl
theorem fA_218_39 : fitA 218 39 = some false := rfl
theorem fA_218_40 : fitA 218 40 = some false := rfl
theorem fA_218_41 : fitA 218 41 = some false := rfl
theorem fA_218_42 : fitA 218 42 = some false := rfl
theorem fA_218_43 : fitA 218 43 = some false := rfl
theorem fA_218_44 : fitA 218 44 = some false := rfl
