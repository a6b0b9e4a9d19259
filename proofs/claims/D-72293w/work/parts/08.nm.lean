set_option maxRecDepth 100000
abbrev cX5_init : ByteArray := prog_15_method_1_code
def yX5_init : MethodName := ⟨RX5, "<init>", "()V"⟩
def dkwX5_init_13 : List UInt8 := [16, 39, 3, 79, 181, 0, 35, 42, 16, 6, 188, 10, 181, 0, 38, 42, 7, 7, 5, 5, 182, 0, 41, 177]
abbrev dktX5_init_13 : List UInt8 := dkwX5_init_13 ++ []
def dkwX5_init_12 : List UInt8 := [16, 35, 16, 114, 79, 89, 16, 36, 16, 111, 79, 89, 16, 37, 16, 119, 79, 89, 16, 38, 3, 79, 89]
abbrev dktX5_init_12 : List UInt8 := dkwX5_init_12 ++ dktX5_init_13
def dkwX5_init_11 : List UInt8 := [16, 31, 16, 108, 79, 89, 16, 32, 16, 101, 79, 89, 16, 33, 16, 97, 79, 89, 16, 34, 16, 114, 79, 89]
abbrev dktX5_init_11 : List UInt8 := dkwX5_init_11 ++ dktX5_init_12
def dkwX5_init_10 : List UInt8 := [89, 16, 27, 16, 102, 79, 89, 16, 28, 16, 116, 79, 89, 16, 29, 3, 79, 89, 16, 30, 16, 99, 79, 89]
abbrev dktX5_init_10 : List UInt8 := dkwX5_init_10 ++ dktX5_init_11
def dkwX5_init_9 : List UInt8 := [79, 89, 16, 23, 16, 112, 79, 89, 16, 24, 3, 79, 89, 16, 25, 16, 119, 79, 89, 16, 26, 16, 101, 79]
abbrev dktX5_init_9 : List UInt8 := dkwX5_init_9 ++ dktX5_init_10
def dkwX5_init_8 : List UInt8 := [79, 89, 16, 19, 16, 100, 79, 89, 16, 20, 16, 119, 79, 89, 16, 21, 16, 97, 79, 89, 16, 22, 16, 114]
abbrev dktX5_init_8 : List UInt8 := dkwX5_init_8 ++ dktX5_init_9
def dkwX5_init_7 : List UInt8 := [79, 89, 16, 15, 16, 116, 79, 89, 16, 16, 16, 114, 79, 89, 16, 17, 16, 101, 79, 89, 16, 18, 16, 97]
abbrev dktX5_init_7 : List UInt8 := dkwX5_init_7 ++ dktX5_init_8
def dkwX5_init_6 : List UInt8 := [16, 116, 79, 89, 16, 11, 16, 105, 79, 89, 16, 12, 16, 101, 79, 89, 16, 13, 3, 79, 89, 16, 14, 3]
abbrev dktX5_init_6 : List UInt8 := dkwX5_init_6 ++ dktX5_init_7
def dkwX5_init_5 : List UInt8 := [16, 114, 79, 89, 16, 7, 16, 97, 79, 89, 16, 8, 16, 119, 79, 89, 16, 9, 3, 79, 89, 16, 10]
abbrev dktX5_init_5 : List UInt8 := dkwX5_init_5 ++ dktX5_init_6
def dkwX5_init_4 : List UInt8 := [79, 89, 5, 16, 97, 79, 89, 6, 16, 102, 79, 89, 7, 16, 116, 79, 89, 8, 16, 100, 79, 89, 16, 6]
abbrev dktX5_init_4 : List UInt8 := dkwX5_init_4 ++ dktX5_init_5
def dkwX5_init_3 : List UInt8 := [181, 0, 29, 42, 7, 188, 10, 181, 0, 32, 42, 16, 40, 188, 10, 89, 3, 16, 100, 79, 89, 4, 16, 114]
abbrev dktX5_init_3 : List UInt8 := dkwX5_init_3 ++ dktX5_init_4
def dkwX5_init_2 : List UInt8 := [2, 79, 89, 5, 2, 79, 181, 0, 23, 42, 16, 24, 188, 10, 181, 0, 26, 42, 16, 6, 188, 10]
abbrev dktX5_init_2 : List UInt8 := dkwX5_init_2 ++ dktX5_init_3
def dkwX5_init_1 : List UInt8 := [188, 4, 181, 0, 16, 42, 17, 0, 200, 188, 10, 181, 0, 20, 42, 6, 188, 10, 89, 3, 2, 79, 89, 4]
abbrev dktX5_init_1 : List UInt8 := dkwX5_init_1 ++ dktX5_init_2
def dkwX5_init_0 : List UInt8 := [42, 183, 0, 1, 42, 17, 2, 126, 188, 10, 181, 0, 7, 42, 16, 12, 188, 10, 181, 0, 13, 42, 5]
abbrev dktX5_init_0 : List UInt8 := dkwX5_init_0 ++ dktX5_init_1
theorem dksX5_init_0 : cX5_init.data.toList.drop 0 = dktX5_init_0 := by decide +kernel
theorem dksX5_init_1 : cX5_init.data.toList.drop 23 = dktX5_init_1 := dk_seg dksX5_init_0 23 rfl rfl
theorem dksX5_init_2 : cX5_init.data.toList.drop 47 = dktX5_init_2 := dk_seg dksX5_init_1 24 rfl rfl
theorem dksX5_init_3 : cX5_init.data.toList.drop 69 = dktX5_init_3 := dk_seg dksX5_init_2 22 rfl rfl
theorem dksX5_init_4 : cX5_init.data.toList.drop 93 = dktX5_init_4 := dk_seg dksX5_init_3 24 rfl rfl
theorem dksX5_init_5 : cX5_init.data.toList.drop 117 = dktX5_init_5 := dk_seg dksX5_init_4 24 rfl rfl
theorem dksX5_init_6 : cX5_init.data.toList.drop 140 = dktX5_init_6 := dk_seg dksX5_init_5 23 rfl rfl
theorem dksX5_init_7 : cX5_init.data.toList.drop 164 = dktX5_init_7 := dk_seg dksX5_init_6 24 rfl rfl
theorem dksX5_init_8 : cX5_init.data.toList.drop 188 = dktX5_init_8 := dk_seg dksX5_init_7 24 rfl rfl
theorem dksX5_init_9 : cX5_init.data.toList.drop 212 = dktX5_init_9 := dk_seg dksX5_init_8 24 rfl rfl
theorem dksX5_init_10 : cX5_init.data.toList.drop 236 = dktX5_init_10 := dk_seg dksX5_init_9 24 rfl rfl
theorem dksX5_init_11 : cX5_init.data.toList.drop 260 = dktX5_init_11 := dk_seg dksX5_init_10 24 rfl rfl
theorem dksX5_init_12 : cX5_init.data.toList.drop 284 = dktX5_init_12 := dk_seg dksX5_init_11 24 rfl rfl
theorem dksX5_init_13 : cX5_init.data.toList.drop 307 = dktX5_init_13 := dk_seg dksX5_init_12 23 rfl rfl
theorem dX5_init_0 : decode cX5_init 0 = .ok (.aload_n 0, 1) := dk_42 (dk_at dksX5_init_0 0 rfl rfl)
theorem dX5_init_1 : decode cX5_init 1 = .ok (.invokespecial 1, 3) := dk_183 0 1 (dk_at dksX5_init_0 1 rfl rfl)
theorem dX5_init_4 : decode cX5_init 4 = .ok (.aload_n 0, 1) := dk_42 (dk_at dksX5_init_0 4 rfl rfl)
theorem dX5_init_5 : decode cX5_init 5 = .ok (.sipush 638, 3) := dk_17 2 126 (dk_at dksX5_init_0 5 rfl rfl)
theorem dX5_init_8 : decode cX5_init 8 = .ok (.newarray .int, 2) := dk_188_10 (dk_at dksX5_init_0 8 rfl rfl)
theorem dX5_init_10 : decode cX5_init 10 = .ok (.putfield 7, 3) := dk_181 0 7 (dk_at dksX5_init_0 10 rfl rfl)
theorem dX5_init_13 : decode cX5_init 13 = .ok (.aload_n 0, 1) := dk_42 (dk_at dksX5_init_0 13 rfl rfl)
theorem dX5_init_14 : decode cX5_init 14 = .ok (.bipush 12, 2) := dk_16 12 (dk_at dksX5_init_0 14 rfl rfl)
theorem dX5_init_16 : decode cX5_init 16 = .ok (.newarray .int, 2) := dk_188_10 (dk_at dksX5_init_0 16 rfl rfl)
theorem dX5_init_18 : decode cX5_init 18 = .ok (.putfield 13, 3) := dk_181 0 13 (dk_at dksX5_init_0 18 rfl rfl)
theorem dX5_init_21 : decode cX5_init 21 = .ok (.aload_n 0, 1) := dk_42 (dk_at dksX5_init_0 21 rfl rfl)
theorem dX5_init_22 : decode cX5_init 22 = .ok (.iconst 2, 1) := dk_5 (dk_at dksX5_init_0 22 rfl rfl)
theorem dX5_init_23 : decode cX5_init 23 = .ok (.newarray .boolean, 2) := dk_188_4 (dk_at dksX5_init_1 0 rfl rfl)
theorem dX5_init_25 : decode cX5_init 25 = .ok (.putfield 16, 3) := dk_181 0 16 (dk_at dksX5_init_1 2 rfl rfl)
theorem dX5_init_28 : decode cX5_init 28 = .ok (.aload_n 0, 1) := dk_42 (dk_at dksX5_init_1 5 rfl rfl)
theorem dX5_init_29 : decode cX5_init 29 = .ok (.sipush 200, 3) := dk_17 0 200 (dk_at dksX5_init_1 6 rfl rfl)
theorem dX5_init_32 : decode cX5_init 32 = .ok (.newarray .int, 2) := dk_188_10 (dk_at dksX5_init_1 9 rfl rfl)
theorem dX5_init_34 : decode cX5_init 34 = .ok (.putfield 20, 3) := dk_181 0 20 (dk_at dksX5_init_1 11 rfl rfl)
theorem dX5_init_37 : decode cX5_init 37 = .ok (.aload_n 0, 1) := dk_42 (dk_at dksX5_init_1 14 rfl rfl)
theorem dX5_init_38 : decode cX5_init 38 = .ok (.iconst 3, 1) := dk_6 (dk_at dksX5_init_1 15 rfl rfl)
theorem dX5_init_39 : decode cX5_init 39 = .ok (.newarray .int, 2) := dk_188_10 (dk_at dksX5_init_1 16 rfl rfl)
theorem dX5_init_41 : decode cX5_init 41 = .ok (.dup, 1) := dk_89 (dk_at dksX5_init_1 18 rfl rfl)
theorem dX5_init_42 : decode cX5_init 42 = .ok (.iconst 0, 1) := dk_3 (dk_at dksX5_init_1 19 rfl rfl)
theorem dX5_init_43 : decode cX5_init 43 = .ok (.iconst (-1), 1) := dk_2 (dk_at dksX5_init_1 20 rfl rfl)
theorem dX5_init_44 : decode cX5_init 44 = .ok (.iastore, 1) := dk_79 (dk_at dksX5_init_1 21 rfl rfl)
theorem dX5_init_45 : decode cX5_init 45 = .ok (.dup, 1) := dk_89 (dk_at dksX5_init_1 22 rfl rfl)
theorem dX5_init_46 : decode cX5_init 46 = .ok (.iconst 1, 1) := dk_4 (dk_at dksX5_init_1 23 rfl rfl)
theorem dX5_init_47 : decode cX5_init 47 = .ok (.iconst (-1), 1) := dk_2 (dk_at dksX5_init_2 0 rfl rfl)
theorem dX5_init_48 : decode cX5_init 48 = .ok (.iastore, 1) := dk_79 (dk_at dksX5_init_2 1 rfl rfl)
theorem dX5_init_49 : decode cX5_init 49 = .ok (.dup, 1) := dk_89 (dk_at dksX5_init_2 2 rfl rfl)
theorem dX5_init_50 : decode cX5_init 50 = .ok (.iconst 2, 1) := dk_5 (dk_at dksX5_init_2 3 rfl rfl)
theorem dX5_init_51 : decode cX5_init 51 = .ok (.iconst (-1), 1) := dk_2 (dk_at dksX5_init_2 4 rfl rfl)
theorem dX5_init_52 : decode cX5_init 52 = .ok (.iastore, 1) := dk_79 (dk_at dksX5_init_2 5 rfl rfl)
theorem dX5_init_53 : decode cX5_init 53 = .ok (.putfield 23, 3) := dk_181 0 23 (dk_at dksX5_init_2 6 rfl rfl)
theorem dX5_init_56 : decode cX5_init 56 = .ok (.aload_n 0, 1) := dk_42 (dk_at dksX5_init_2 9 rfl rfl)
theorem dX5_init_57 : decode cX5_init 57 = .ok (.bipush 24, 2) := dk_16 24 (dk_at dksX5_init_2 10 rfl rfl)
theorem dX5_init_59 : decode cX5_init 59 = .ok (.newarray .int, 2) := dk_188_10 (dk_at dksX5_init_2 12 rfl rfl)
theorem dX5_init_61 : decode cX5_init 61 = .ok (.putfield 26, 3) := dk_181 0 26 (dk_at dksX5_init_2 14 rfl rfl)
theorem dX5_init_64 : decode cX5_init 64 = .ok (.aload_n 0, 1) := dk_42 (dk_at dksX5_init_2 17 rfl rfl)
theorem dX5_init_65 : decode cX5_init 65 = .ok (.bipush 6, 2) := dk_16 6 (dk_at dksX5_init_2 18 rfl rfl)
theorem dX5_init_67 : decode cX5_init 67 = .ok (.newarray .int, 2) := dk_188_10 (dk_at dksX5_init_2 20 rfl rfl)
theorem dX5_init_69 : decode cX5_init 69 = .ok (.putfield 29, 3) := dk_181 0 29 (dk_at dksX5_init_3 0 rfl rfl)
theorem dX5_init_72 : decode cX5_init 72 = .ok (.aload_n 0, 1) := dk_42 (dk_at dksX5_init_3 3 rfl rfl)
theorem dX5_init_73 : decode cX5_init 73 = .ok (.iconst 4, 1) := dk_7 (dk_at dksX5_init_3 4 rfl rfl)
theorem dX5_init_74 : decode cX5_init 74 = .ok (.newarray .int, 2) := dk_188_10 (dk_at dksX5_init_3 5 rfl rfl)
theorem dX5_init_76 : decode cX5_init 76 = .ok (.putfield 32, 3) := dk_181 0 32 (dk_at dksX5_init_3 7 rfl rfl)
theorem dX5_init_79 : decode cX5_init 79 = .ok (.aload_n 0, 1) := dk_42 (dk_at dksX5_init_3 10 rfl rfl)
theorem dX5_init_80 : decode cX5_init 80 = .ok (.bipush 40, 2) := dk_16 40 (dk_at dksX5_init_3 11 rfl rfl)
theorem dX5_init_82 : decode cX5_init 82 = .ok (.newarray .int, 2) := dk_188_10 (dk_at dksX5_init_3 13 rfl rfl)
theorem dX5_init_84 : decode cX5_init 84 = .ok (.dup, 1) := dk_89 (dk_at dksX5_init_3 15 rfl rfl)
theorem dX5_init_85 : decode cX5_init 85 = .ok (.iconst 0, 1) := dk_3 (dk_at dksX5_init_3 16 rfl rfl)
theorem dX5_init_86 : decode cX5_init 86 = .ok (.bipush 100, 2) := dk_16 100 (dk_at dksX5_init_3 17 rfl rfl)
theorem dX5_init_88 : decode cX5_init 88 = .ok (.iastore, 1) := dk_79 (dk_at dksX5_init_3 19 rfl rfl)
theorem dX5_init_89 : decode cX5_init 89 = .ok (.dup, 1) := dk_89 (dk_at dksX5_init_3 20 rfl rfl)
theorem dX5_init_90 : decode cX5_init 90 = .ok (.iconst 1, 1) := dk_4 (dk_at dksX5_init_3 21 rfl rfl)
theorem dX5_init_91 : decode cX5_init 91 = .ok (.bipush 114, 2) := dk_16 114 (dk_at dksX5_init_3 22 rfl rfl)
theorem dX5_init_93 : decode cX5_init 93 = .ok (.iastore, 1) := dk_79 (dk_at dksX5_init_4 0 rfl rfl)
theorem dX5_init_94 : decode cX5_init 94 = .ok (.dup, 1) := dk_89 (dk_at dksX5_init_4 1 rfl rfl)
theorem dX5_init_95 : decode cX5_init 95 = .ok (.iconst 2, 1) := dk_5 (dk_at dksX5_init_4 2 rfl rfl)
theorem dX5_init_96 : decode cX5_init 96 = .ok (.bipush 97, 2) := dk_16 97 (dk_at dksX5_init_4 3 rfl rfl)
theorem dX5_init_98 : decode cX5_init 98 = .ok (.iastore, 1) := dk_79 (dk_at dksX5_init_4 5 rfl rfl)
theorem dX5_init_99 : decode cX5_init 99 = .ok (.dup, 1) := dk_89 (dk_at dksX5_init_4 6 rfl rfl)
theorem dX5_init_100 : decode cX5_init 100 = .ok (.iconst 3, 1) := dk_6 (dk_at dksX5_init_4 7 rfl rfl)
theorem dX5_init_101 : decode cX5_init 101 = .ok (.bipush 102, 2) := dk_16 102 (dk_at dksX5_init_4 8 rfl rfl)
theorem dX5_init_103 : decode cX5_init 103 = .ok (.iastore, 1) := dk_79 (dk_at dksX5_init_4 10 rfl rfl)
theorem dX5_init_104 : decode cX5_init 104 = .ok (.dup, 1) := dk_89 (dk_at dksX5_init_4 11 rfl rfl)
theorem dX5_init_105 : decode cX5_init 105 = .ok (.iconst 4, 1) := dk_7 (dk_at dksX5_init_4 12 rfl rfl)
theorem dX5_init_106 : decode cX5_init 106 = .ok (.bipush 116, 2) := dk_16 116 (dk_at dksX5_init_4 13 rfl rfl)
theorem dX5_init_108 : decode cX5_init 108 = .ok (.iastore, 1) := dk_79 (dk_at dksX5_init_4 15 rfl rfl)
theorem dX5_init_109 : decode cX5_init 109 = .ok (.dup, 1) := dk_89 (dk_at dksX5_init_4 16 rfl rfl)
theorem dX5_init_110 : decode cX5_init 110 = .ok (.iconst 5, 1) := dk_8 (dk_at dksX5_init_4 17 rfl rfl)
theorem dX5_init_111 : decode cX5_init 111 = .ok (.bipush 100, 2) := dk_16 100 (dk_at dksX5_init_4 18 rfl rfl)
theorem dX5_init_113 : decode cX5_init 113 = .ok (.iastore, 1) := dk_79 (dk_at dksX5_init_4 20 rfl rfl)
theorem dX5_init_114 : decode cX5_init 114 = .ok (.dup, 1) := dk_89 (dk_at dksX5_init_4 21 rfl rfl)
theorem dX5_init_115 : decode cX5_init 115 = .ok (.bipush 6, 2) := dk_16 6 (dk_at dksX5_init_4 22 rfl rfl)
theorem dX5_init_117 : decode cX5_init 117 = .ok (.bipush 114, 2) := dk_16 114 (dk_at dksX5_init_5 0 rfl rfl)
theorem dX5_init_119 : decode cX5_init 119 = .ok (.iastore, 1) := dk_79 (dk_at dksX5_init_5 2 rfl rfl)
theorem dX5_init_120 : decode cX5_init 120 = .ok (.dup, 1) := dk_89 (dk_at dksX5_init_5 3 rfl rfl)
theorem dX5_init_121 : decode cX5_init 121 = .ok (.bipush 7, 2) := dk_16 7 (dk_at dksX5_init_5 4 rfl rfl)
theorem dX5_init_123 : decode cX5_init 123 = .ok (.bipush 97, 2) := dk_16 97 (dk_at dksX5_init_5 6 rfl rfl)
theorem dX5_init_125 : decode cX5_init 125 = .ok (.iastore, 1) := dk_79 (dk_at dksX5_init_5 8 rfl rfl)
theorem dX5_init_126 : decode cX5_init 126 = .ok (.dup, 1) := dk_89 (dk_at dksX5_init_5 9 rfl rfl)
theorem dX5_init_127 : decode cX5_init 127 = .ok (.bipush 8, 2) := dk_16 8 (dk_at dksX5_init_5 10 rfl rfl)
theorem dX5_init_129 : decode cX5_init 129 = .ok (.bipush 119, 2) := dk_16 119 (dk_at dksX5_init_5 12 rfl rfl)
theorem dX5_init_131 : decode cX5_init 131 = .ok (.iastore, 1) := dk_79 (dk_at dksX5_init_5 14 rfl rfl)
theorem dX5_init_132 : decode cX5_init 132 = .ok (.dup, 1) := dk_89 (dk_at dksX5_init_5 15 rfl rfl)
theorem dX5_init_133 : decode cX5_init 133 = .ok (.bipush 9, 2) := dk_16 9 (dk_at dksX5_init_5 16 rfl rfl)
theorem dX5_init_135 : decode cX5_init 135 = .ok (.iconst 0, 1) := dk_3 (dk_at dksX5_init_5 18 rfl rfl)
theorem dX5_init_136 : decode cX5_init 136 = .ok (.iastore, 1) := dk_79 (dk_at dksX5_init_5 19 rfl rfl)
theorem dX5_init_137 : decode cX5_init 137 = .ok (.dup, 1) := dk_89 (dk_at dksX5_init_5 20 rfl rfl)
theorem dX5_init_138 : decode cX5_init 138 = .ok (.bipush 10, 2) := dk_16 10 (dk_at dksX5_init_5 21 rfl rfl)
theorem dX5_init_140 : decode cX5_init 140 = .ok (.bipush 116, 2) := dk_16 116 (dk_at dksX5_init_6 0 rfl rfl)
theorem dX5_init_142 : decode cX5_init 142 = .ok (.iastore, 1) := dk_79 (dk_at dksX5_init_6 2 rfl rfl)
theorem dX5_init_143 : decode cX5_init 143 = .ok (.dup, 1) := dk_89 (dk_at dksX5_init_6 3 rfl rfl)
theorem dX5_init_144 : decode cX5_init 144 = .ok (.bipush 11, 2) := dk_16 11 (dk_at dksX5_init_6 4 rfl rfl)
theorem dX5_init_146 : decode cX5_init 146 = .ok (.bipush 105, 2) := dk_16 105 (dk_at dksX5_init_6 6 rfl rfl)
theorem dX5_init_148 : decode cX5_init 148 = .ok (.iastore, 1) := dk_79 (dk_at dksX5_init_6 8 rfl rfl)
theorem dX5_init_149 : decode cX5_init 149 = .ok (.dup, 1) := dk_89 (dk_at dksX5_init_6 9 rfl rfl)
theorem dX5_init_150 : decode cX5_init 150 = .ok (.bipush 12, 2) := dk_16 12 (dk_at dksX5_init_6 10 rfl rfl)
theorem dX5_init_152 : decode cX5_init 152 = .ok (.bipush 101, 2) := dk_16 101 (dk_at dksX5_init_6 12 rfl rfl)
theorem dX5_init_154 : decode cX5_init 154 = .ok (.iastore, 1) := dk_79 (dk_at dksX5_init_6 14 rfl rfl)
theorem dX5_init_155 : decode cX5_init 155 = .ok (.dup, 1) := dk_89 (dk_at dksX5_init_6 15 rfl rfl)
theorem dX5_init_156 : decode cX5_init 156 = .ok (.bipush 13, 2) := dk_16 13 (dk_at dksX5_init_6 16 rfl rfl)
theorem dX5_init_158 : decode cX5_init 158 = .ok (.iconst 0, 1) := dk_3 (dk_at dksX5_init_6 18 rfl rfl)
theorem dX5_init_159 : decode cX5_init 159 = .ok (.iastore, 1) := dk_79 (dk_at dksX5_init_6 19 rfl rfl)
theorem dX5_init_160 : decode cX5_init 160 = .ok (.dup, 1) := dk_89 (dk_at dksX5_init_6 20 rfl rfl)
theorem dX5_init_161 : decode cX5_init 161 = .ok (.bipush 14, 2) := dk_16 14 (dk_at dksX5_init_6 21 rfl rfl)
theorem dX5_init_163 : decode cX5_init 163 = .ok (.iconst 0, 1) := dk_3 (dk_at dksX5_init_6 23 rfl rfl)
theorem dX5_init_164 : decode cX5_init 164 = .ok (.iastore, 1) := dk_79 (dk_at dksX5_init_7 0 rfl rfl)
theorem dX5_init_165 : decode cX5_init 165 = .ok (.dup, 1) := dk_89 (dk_at dksX5_init_7 1 rfl rfl)
theorem dX5_init_166 : decode cX5_init 166 = .ok (.bipush 15, 2) := dk_16 15 (dk_at dksX5_init_7 2 rfl rfl)
theorem dX5_init_168 : decode cX5_init 168 = .ok (.bipush 116, 2) := dk_16 116 (dk_at dksX5_init_7 4 rfl rfl)
theorem dX5_init_170 : decode cX5_init 170 = .ok (.iastore, 1) := dk_79 (dk_at dksX5_init_7 6 rfl rfl)
theorem dX5_init_171 : decode cX5_init 171 = .ok (.dup, 1) := dk_89 (dk_at dksX5_init_7 7 rfl rfl)
theorem dX5_init_172 : decode cX5_init 172 = .ok (.bipush 16, 2) := dk_16 16 (dk_at dksX5_init_7 8 rfl rfl)
theorem dX5_init_174 : decode cX5_init 174 = .ok (.bipush 114, 2) := dk_16 114 (dk_at dksX5_init_7 10 rfl rfl)
theorem dX5_init_176 : decode cX5_init 176 = .ok (.iastore, 1) := dk_79 (dk_at dksX5_init_7 12 rfl rfl)
theorem dX5_init_177 : decode cX5_init 177 = .ok (.dup, 1) := dk_89 (dk_at dksX5_init_7 13 rfl rfl)
theorem dX5_init_178 : decode cX5_init 178 = .ok (.bipush 17, 2) := dk_16 17 (dk_at dksX5_init_7 14 rfl rfl)
theorem dX5_init_180 : decode cX5_init 180 = .ok (.bipush 101, 2) := dk_16 101 (dk_at dksX5_init_7 16 rfl rfl)
theorem dX5_init_182 : decode cX5_init 182 = .ok (.iastore, 1) := dk_79 (dk_at dksX5_init_7 18 rfl rfl)
theorem dX5_init_183 : decode cX5_init 183 = .ok (.dup, 1) := dk_89 (dk_at dksX5_init_7 19 rfl rfl)
theorem dX5_init_184 : decode cX5_init 184 = .ok (.bipush 18, 2) := dk_16 18 (dk_at dksX5_init_7 20 rfl rfl)
theorem dX5_init_186 : decode cX5_init 186 = .ok (.bipush 97, 2) := dk_16 97 (dk_at dksX5_init_7 22 rfl rfl)
theorem dX5_init_188 : decode cX5_init 188 = .ok (.iastore, 1) := dk_79 (dk_at dksX5_init_8 0 rfl rfl)
theorem dX5_init_189 : decode cX5_init 189 = .ok (.dup, 1) := dk_89 (dk_at dksX5_init_8 1 rfl rfl)
theorem dX5_init_190 : decode cX5_init 190 = .ok (.bipush 19, 2) := dk_16 19 (dk_at dksX5_init_8 2 rfl rfl)
theorem dX5_init_192 : decode cX5_init 192 = .ok (.bipush 100, 2) := dk_16 100 (dk_at dksX5_init_8 4 rfl rfl)
theorem dX5_init_194 : decode cX5_init 194 = .ok (.iastore, 1) := dk_79 (dk_at dksX5_init_8 6 rfl rfl)
theorem dX5_init_195 : decode cX5_init 195 = .ok (.dup, 1) := dk_89 (dk_at dksX5_init_8 7 rfl rfl)
theorem dX5_init_196 : decode cX5_init 196 = .ok (.bipush 20, 2) := dk_16 20 (dk_at dksX5_init_8 8 rfl rfl)
theorem dX5_init_198 : decode cX5_init 198 = .ok (.bipush 119, 2) := dk_16 119 (dk_at dksX5_init_8 10 rfl rfl)
theorem dX5_init_200 : decode cX5_init 200 = .ok (.iastore, 1) := dk_79 (dk_at dksX5_init_8 12 rfl rfl)
theorem dX5_init_201 : decode cX5_init 201 = .ok (.dup, 1) := dk_89 (dk_at dksX5_init_8 13 rfl rfl)
theorem dX5_init_202 : decode cX5_init 202 = .ok (.bipush 21, 2) := dk_16 21 (dk_at dksX5_init_8 14 rfl rfl)
theorem dX5_init_204 : decode cX5_init 204 = .ok (.bipush 97, 2) := dk_16 97 (dk_at dksX5_init_8 16 rfl rfl)
theorem dX5_init_206 : decode cX5_init 206 = .ok (.iastore, 1) := dk_79 (dk_at dksX5_init_8 18 rfl rfl)
theorem dX5_init_207 : decode cX5_init 207 = .ok (.dup, 1) := dk_89 (dk_at dksX5_init_8 19 rfl rfl)
theorem dX5_init_208 : decode cX5_init 208 = .ok (.bipush 22, 2) := dk_16 22 (dk_at dksX5_init_8 20 rfl rfl)
theorem dX5_init_210 : decode cX5_init 210 = .ok (.bipush 114, 2) := dk_16 114 (dk_at dksX5_init_8 22 rfl rfl)
theorem dX5_init_212 : decode cX5_init 212 = .ok (.iastore, 1) := dk_79 (dk_at dksX5_init_9 0 rfl rfl)
theorem dX5_init_213 : decode cX5_init 213 = .ok (.dup, 1) := dk_89 (dk_at dksX5_init_9 1 rfl rfl)
theorem dX5_init_214 : decode cX5_init 214 = .ok (.bipush 23, 2) := dk_16 23 (dk_at dksX5_init_9 2 rfl rfl)
theorem dX5_init_216 : decode cX5_init 216 = .ok (.bipush 112, 2) := dk_16 112 (dk_at dksX5_init_9 4 rfl rfl)
theorem dX5_init_218 : decode cX5_init 218 = .ok (.iastore, 1) := dk_79 (dk_at dksX5_init_9 6 rfl rfl)
theorem dX5_init_219 : decode cX5_init 219 = .ok (.dup, 1) := dk_89 (dk_at dksX5_init_9 7 rfl rfl)
theorem dX5_init_220 : decode cX5_init 220 = .ok (.bipush 24, 2) := dk_16 24 (dk_at dksX5_init_9 8 rfl rfl)
theorem dX5_init_222 : decode cX5_init 222 = .ok (.iconst 0, 1) := dk_3 (dk_at dksX5_init_9 10 rfl rfl)
theorem dX5_init_223 : decode cX5_init 223 = .ok (.iastore, 1) := dk_79 (dk_at dksX5_init_9 11 rfl rfl)
theorem dX5_init_224 : decode cX5_init 224 = .ok (.dup, 1) := dk_89 (dk_at dksX5_init_9 12 rfl rfl)
theorem dX5_init_225 : decode cX5_init 225 = .ok (.bipush 25, 2) := dk_16 25 (dk_at dksX5_init_9 13 rfl rfl)
theorem dX5_init_227 : decode cX5_init 227 = .ok (.bipush 119, 2) := dk_16 119 (dk_at dksX5_init_9 15 rfl rfl)
theorem dX5_init_229 : decode cX5_init 229 = .ok (.iastore, 1) := dk_79 (dk_at dksX5_init_9 17 rfl rfl)
theorem dX5_init_230 : decode cX5_init 230 = .ok (.dup, 1) := dk_89 (dk_at dksX5_init_9 18 rfl rfl)
theorem dX5_init_231 : decode cX5_init 231 = .ok (.bipush 26, 2) := dk_16 26 (dk_at dksX5_init_9 19 rfl rfl)
theorem dX5_init_233 : decode cX5_init 233 = .ok (.bipush 101, 2) := dk_16 101 (dk_at dksX5_init_9 21 rfl rfl)
theorem dX5_init_235 : decode cX5_init 235 = .ok (.iastore, 1) := dk_79 (dk_at dksX5_init_9 23 rfl rfl)
theorem dX5_init_236 : decode cX5_init 236 = .ok (.dup, 1) := dk_89 (dk_at dksX5_init_10 0 rfl rfl)
theorem dX5_init_237 : decode cX5_init 237 = .ok (.bipush 27, 2) := dk_16 27 (dk_at dksX5_init_10 1 rfl rfl)
theorem dX5_init_239 : decode cX5_init 239 = .ok (.bipush 102, 2) := dk_16 102 (dk_at dksX5_init_10 3 rfl rfl)
theorem dX5_init_241 : decode cX5_init 241 = .ok (.iastore, 1) := dk_79 (dk_at dksX5_init_10 5 rfl rfl)
theorem dX5_init_242 : decode cX5_init 242 = .ok (.dup, 1) := dk_89 (dk_at dksX5_init_10 6 rfl rfl)
theorem dX5_init_243 : decode cX5_init 243 = .ok (.bipush 28, 2) := dk_16 28 (dk_at dksX5_init_10 7 rfl rfl)
theorem dX5_init_245 : decode cX5_init 245 = .ok (.bipush 116, 2) := dk_16 116 (dk_at dksX5_init_10 9 rfl rfl)
theorem dX5_init_247 : decode cX5_init 247 = .ok (.iastore, 1) := dk_79 (dk_at dksX5_init_10 11 rfl rfl)
theorem dX5_init_248 : decode cX5_init 248 = .ok (.dup, 1) := dk_89 (dk_at dksX5_init_10 12 rfl rfl)
theorem dX5_init_249 : decode cX5_init 249 = .ok (.bipush 29, 2) := dk_16 29 (dk_at dksX5_init_10 13 rfl rfl)
theorem dX5_init_251 : decode cX5_init 251 = .ok (.iconst 0, 1) := dk_3 (dk_at dksX5_init_10 15 rfl rfl)
theorem dX5_init_252 : decode cX5_init 252 = .ok (.iastore, 1) := dk_79 (dk_at dksX5_init_10 16 rfl rfl)
theorem dX5_init_253 : decode cX5_init 253 = .ok (.dup, 1) := dk_89 (dk_at dksX5_init_10 17 rfl rfl)
theorem dX5_init_254 : decode cX5_init 254 = .ok (.bipush 30, 2) := dk_16 30 (dk_at dksX5_init_10 18 rfl rfl)
theorem dX5_init_256 : decode cX5_init 256 = .ok (.bipush 99, 2) := dk_16 99 (dk_at dksX5_init_10 20 rfl rfl)
theorem dX5_init_258 : decode cX5_init 258 = .ok (.iastore, 1) := dk_79 (dk_at dksX5_init_10 22 rfl rfl)
theorem dX5_init_259 : decode cX5_init 259 = .ok (.dup, 1) := dk_89 (dk_at dksX5_init_10 23 rfl rfl)
theorem dX5_init_260 : decode cX5_init 260 = .ok (.bipush 31, 2) := dk_16 31 (dk_at dksX5_init_11 0 rfl rfl)
theorem dX5_init_262 : decode cX5_init 262 = .ok (.bipush 108, 2) := dk_16 108 (dk_at dksX5_init_11 2 rfl rfl)
theorem dX5_init_264 : decode cX5_init 264 = .ok (.iastore, 1) := dk_79 (dk_at dksX5_init_11 4 rfl rfl)
theorem dX5_init_265 : decode cX5_init 265 = .ok (.dup, 1) := dk_89 (dk_at dksX5_init_11 5 rfl rfl)
theorem dX5_init_266 : decode cX5_init 266 = .ok (.bipush 32, 2) := dk_16 32 (dk_at dksX5_init_11 6 rfl rfl)
theorem dX5_init_268 : decode cX5_init 268 = .ok (.bipush 101, 2) := dk_16 101 (dk_at dksX5_init_11 8 rfl rfl)
theorem dX5_init_270 : decode cX5_init 270 = .ok (.iastore, 1) := dk_79 (dk_at dksX5_init_11 10 rfl rfl)
theorem dX5_init_271 : decode cX5_init 271 = .ok (.dup, 1) := dk_89 (dk_at dksX5_init_11 11 rfl rfl)
theorem dX5_init_272 : decode cX5_init 272 = .ok (.bipush 33, 2) := dk_16 33 (dk_at dksX5_init_11 12 rfl rfl)
theorem dX5_init_274 : decode cX5_init 274 = .ok (.bipush 97, 2) := dk_16 97 (dk_at dksX5_init_11 14 rfl rfl)
theorem dX5_init_276 : decode cX5_init 276 = .ok (.iastore, 1) := dk_79 (dk_at dksX5_init_11 16 rfl rfl)
theorem dX5_init_277 : decode cX5_init 277 = .ok (.dup, 1) := dk_89 (dk_at dksX5_init_11 17 rfl rfl)
theorem dX5_init_278 : decode cX5_init 278 = .ok (.bipush 34, 2) := dk_16 34 (dk_at dksX5_init_11 18 rfl rfl)
theorem dX5_init_280 : decode cX5_init 280 = .ok (.bipush 114, 2) := dk_16 114 (dk_at dksX5_init_11 20 rfl rfl)
theorem dX5_init_282 : decode cX5_init 282 = .ok (.iastore, 1) := dk_79 (dk_at dksX5_init_11 22 rfl rfl)
theorem dX5_init_283 : decode cX5_init 283 = .ok (.dup, 1) := dk_89 (dk_at dksX5_init_11 23 rfl rfl)
theorem dX5_init_284 : decode cX5_init 284 = .ok (.bipush 35, 2) := dk_16 35 (dk_at dksX5_init_12 0 rfl rfl)
theorem dX5_init_286 : decode cX5_init 286 = .ok (.bipush 114, 2) := dk_16 114 (dk_at dksX5_init_12 2 rfl rfl)
theorem dX5_init_288 : decode cX5_init 288 = .ok (.iastore, 1) := dk_79 (dk_at dksX5_init_12 4 rfl rfl)
theorem dX5_init_289 : decode cX5_init 289 = .ok (.dup, 1) := dk_89 (dk_at dksX5_init_12 5 rfl rfl)
theorem dX5_init_290 : decode cX5_init 290 = .ok (.bipush 36, 2) := dk_16 36 (dk_at dksX5_init_12 6 rfl rfl)
theorem dX5_init_292 : decode cX5_init 292 = .ok (.bipush 111, 2) := dk_16 111 (dk_at dksX5_init_12 8 rfl rfl)
theorem dX5_init_294 : decode cX5_init 294 = .ok (.iastore, 1) := dk_79 (dk_at dksX5_init_12 10 rfl rfl)
theorem dX5_init_295 : decode cX5_init 295 = .ok (.dup, 1) := dk_89 (dk_at dksX5_init_12 11 rfl rfl)
theorem dX5_init_296 : decode cX5_init 296 = .ok (.bipush 37, 2) := dk_16 37 (dk_at dksX5_init_12 12 rfl rfl)
theorem dX5_init_298 : decode cX5_init 298 = .ok (.bipush 119, 2) := dk_16 119 (dk_at dksX5_init_12 14 rfl rfl)
theorem dX5_init_300 : decode cX5_init 300 = .ok (.iastore, 1) := dk_79 (dk_at dksX5_init_12 16 rfl rfl)
theorem dX5_init_301 : decode cX5_init 301 = .ok (.dup, 1) := dk_89 (dk_at dksX5_init_12 17 rfl rfl)
theorem dX5_init_302 : decode cX5_init 302 = .ok (.bipush 38, 2) := dk_16 38 (dk_at dksX5_init_12 18 rfl rfl)
theorem dX5_init_304 : decode cX5_init 304 = .ok (.iconst 0, 1) := dk_3 (dk_at dksX5_init_12 20 rfl rfl)
theorem dX5_init_305 : decode cX5_init 305 = .ok (.iastore, 1) := dk_79 (dk_at dksX5_init_12 21 rfl rfl)
theorem dX5_init_306 : decode cX5_init 306 = .ok (.dup, 1) := dk_89 (dk_at dksX5_init_12 22 rfl rfl)
theorem dX5_init_307 : decode cX5_init 307 = .ok (.bipush 39, 2) := dk_16 39 (dk_at dksX5_init_13 0 rfl rfl)
theorem dX5_init_309 : decode cX5_init 309 = .ok (.iconst 0, 1) := dk_3 (dk_at dksX5_init_13 2 rfl rfl)
theorem dX5_init_310 : decode cX5_init 310 = .ok (.iastore, 1) := dk_79 (dk_at dksX5_init_13 3 rfl rfl)
theorem dX5_init_311 : decode cX5_init 311 = .ok (.putfield 35, 3) := dk_181 0 35 (dk_at dksX5_init_13 4 rfl rfl)
theorem dX5_init_314 : decode cX5_init 314 = .ok (.aload_n 0, 1) := dk_42 (dk_at dksX5_init_13 7 rfl rfl)
theorem dX5_init_315 : decode cX5_init 315 = .ok (.bipush 6, 2) := dk_16 6 (dk_at dksX5_init_13 8 rfl rfl)
theorem dX5_init_317 : decode cX5_init 317 = .ok (.newarray .int, 2) := dk_188_10 (dk_at dksX5_init_13 10 rfl rfl)
theorem dX5_init_319 : decode cX5_init 319 = .ok (.putfield 38, 3) := dk_181 0 38 (dk_at dksX5_init_13 12 rfl rfl)
theorem dX5_init_322 : decode cX5_init 322 = .ok (.aload_n 0, 1) := dk_42 (dk_at dksX5_init_13 15 rfl rfl)
theorem dX5_init_323 : decode cX5_init 323 = .ok (.iconst 4, 1) := dk_7 (dk_at dksX5_init_13 16 rfl rfl)
theorem dX5_init_324 : decode cX5_init 324 = .ok (.iconst 4, 1) := dk_7 (dk_at dksX5_init_13 17 rfl rfl)
theorem dX5_init_325 : decode cX5_init 325 = .ok (.iconst 2, 1) := dk_5 (dk_at dksX5_init_13 18 rfl rfl)
theorem dX5_init_326 : decode cX5_init 326 = .ok (.iconst 2, 1) := dk_5 (dk_at dksX5_init_13 19 rfl rfl)
theorem dX5_init_327 : decode cX5_init 327 = .ok (.invokevirtual 41, 3) := dk_182 0 41 (dk_at dksX5_init_13 20 rfl rfl)
theorem dX5_init_330 : decode cX5_init 330 = .ok (.return_, 1) := dk_177 (dk_at dksX5_init_13 23 rfl rfl)
abbrev cX5_anew : ByteArray := prog_15_method_6_code
def yX5_anew : MethodName := ⟨RX5, "anew", "(IIII)V"⟩
def dkwX5_anew_5 : List UInt8 := [21, 4, 162, 0, 12, 4, 21, 5, 29, 112, 120, 167, 0, 4, 3, 79, 132, 5, 1, 167, 255, 219, 177]
abbrev dktX5_anew_5 : List UInt8 := dkwX5_anew_5 ++ []
def dkwX5_anew_4 : List UInt8 := [167, 255, 196, 3, 54, 5, 21, 5, 16, 6, 162, 0, 36, 42, 180, 0, 7, 16, 16, 21, 5, 96, 21, 5]
abbrev dktX5_anew_4 : List UInt8 := dkwX5_anew_4 ++ dktX5_anew_5
def dkwX5_anew_3 : List UInt8 := [180, 0, 7, 16, 34, 21, 5, 96, 3, 79, 42, 180, 0, 7, 16, 46, 21, 5, 96, 4, 79, 132, 5, 1]
abbrev dktX5_anew_3 : List UInt8 := dkwX5_anew_3 ++ dktX5_anew_4
def dkwX5_anew_2 : List UInt8 := [96, 21, 5, 29, 112, 79, 42, 180, 0, 7, 16, 22, 21, 5, 96, 21, 5, 21, 4, 112, 79, 42]
abbrev dktX5_anew_2 : List UInt8 := dkwX5_anew_2 ++ dktX5_anew_3
def dkwX5_anew_1 : List UInt8 := [180, 0, 7, 6, 21, 4, 79, 3, 54, 5, 21, 5, 16, 12, 162, 0, 59, 42, 180, 0, 7, 7, 21, 5]
abbrev dktX5_anew_1 : List UInt8 := dkwX5_anew_1 ++ dktX5_anew_2
def dkwX5_anew_0 : List UInt8 := [42, 180, 0, 7, 3, 27, 79, 42, 180, 0, 7, 4, 28, 79, 42, 180, 0, 7, 5, 29, 79, 42]
abbrev dktX5_anew_0 : List UInt8 := dkwX5_anew_0 ++ dktX5_anew_1
theorem dksX5_anew_0 : cX5_anew.data.toList.drop 0 = dktX5_anew_0 := by decide +kernel
theorem dksX5_anew_1 : cX5_anew.data.toList.drop 22 = dktX5_anew_1 := dk_seg dksX5_anew_0 22 rfl rfl
theorem dksX5_anew_2 : cX5_anew.data.toList.drop 46 = dktX5_anew_2 := dk_seg dksX5_anew_1 24 rfl rfl
theorem dksX5_anew_3 : cX5_anew.data.toList.drop 68 = dktX5_anew_3 := dk_seg dksX5_anew_2 22 rfl rfl
theorem dksX5_anew_4 : cX5_anew.data.toList.drop 92 = dktX5_anew_4 := dk_seg dksX5_anew_3 24 rfl rfl
theorem dksX5_anew_5 : cX5_anew.data.toList.drop 116 = dktX5_anew_5 := dk_seg dksX5_anew_4 24 rfl rfl
theorem dX5_anew_0 : decode cX5_anew 0 = .ok (.aload_n 0, 1) := dk_42 (dk_at dksX5_anew_0 0 rfl rfl)
theorem dX5_anew_1 : decode cX5_anew 1 = .ok (.getfield 7, 3) := dk_180 0 7 (dk_at dksX5_anew_0 1 rfl rfl)
theorem dX5_anew_4 : decode cX5_anew 4 = .ok (.iconst 0, 1) := dk_3 (dk_at dksX5_anew_0 4 rfl rfl)
theorem dX5_anew_5 : decode cX5_anew 5 = .ok (.iload_n 1, 1) := dk_27 (dk_at dksX5_anew_0 5 rfl rfl)
theorem dX5_anew_6 : decode cX5_anew 6 = .ok (.iastore, 1) := dk_79 (dk_at dksX5_anew_0 6 rfl rfl)
theorem dX5_anew_7 : decode cX5_anew 7 = .ok (.aload_n 0, 1) := dk_42 (dk_at dksX5_anew_0 7 rfl rfl)
theorem dX5_anew_8 : decode cX5_anew 8 = .ok (.getfield 7, 3) := dk_180 0 7 (dk_at dksX5_anew_0 8 rfl rfl)
theorem dX5_anew_11 : decode cX5_anew 11 = .ok (.iconst 1, 1) := dk_4 (dk_at dksX5_anew_0 11 rfl rfl)
theorem dX5_anew_12 : decode cX5_anew 12 = .ok (.iload_n 2, 1) := dk_28 (dk_at dksX5_anew_0 12 rfl rfl)
theorem dX5_anew_13 : decode cX5_anew 13 = .ok (.iastore, 1) := dk_79 (dk_at dksX5_anew_0 13 rfl rfl)
theorem dX5_anew_14 : decode cX5_anew 14 = .ok (.aload_n 0, 1) := dk_42 (dk_at dksX5_anew_0 14 rfl rfl)
theorem dX5_anew_15 : decode cX5_anew 15 = .ok (.getfield 7, 3) := dk_180 0 7 (dk_at dksX5_anew_0 15 rfl rfl)
theorem dX5_anew_18 : decode cX5_anew 18 = .ok (.iconst 2, 1) := dk_5 (dk_at dksX5_anew_0 18 rfl rfl)
theorem dX5_anew_19 : decode cX5_anew 19 = .ok (.iload_n 3, 1) := dk_29 (dk_at dksX5_anew_0 19 rfl rfl)
theorem dX5_anew_20 : decode cX5_anew 20 = .ok (.iastore, 1) := dk_79 (dk_at dksX5_anew_0 20 rfl rfl)
theorem dX5_anew_21 : decode cX5_anew 21 = .ok (.aload_n 0, 1) := dk_42 (dk_at dksX5_anew_0 21 rfl rfl)
theorem dX5_anew_22 : decode cX5_anew 22 = .ok (.getfield 7, 3) := dk_180 0 7 (dk_at dksX5_anew_1 0 rfl rfl)
theorem dX5_anew_25 : decode cX5_anew 25 = .ok (.iconst 3, 1) := dk_6 (dk_at dksX5_anew_1 3 rfl rfl)
theorem dX5_anew_26 : decode cX5_anew 26 = .ok (.iload 4, 2) := dk_21 4 (dk_at dksX5_anew_1 4 rfl rfl)
theorem dX5_anew_28 : decode cX5_anew 28 = .ok (.iastore, 1) := dk_79 (dk_at dksX5_anew_1 6 rfl rfl)
theorem dX5_anew_29 : decode cX5_anew 29 = .ok (.iconst 0, 1) := dk_3 (dk_at dksX5_anew_1 7 rfl rfl)
theorem dX5_anew_30 : decode cX5_anew 30 = .ok (.istore 5, 2) := dk_54 5 (dk_at dksX5_anew_1 8 rfl rfl)
theorem dX5_anew_32 : decode cX5_anew 32 = .ok (.iload 5, 2) := dk_21 5 (dk_at dksX5_anew_1 10 rfl rfl)
theorem dX5_anew_34 : decode cX5_anew 34 = .ok (.bipush 12, 2) := dk_16 12 (dk_at dksX5_anew_1 12 rfl rfl)
theorem dX5_anew_36 : decode cX5_anew 36 = .ok (.if_icmp .ge 59, 3) := dk_162 0 59 (dk_at dksX5_anew_1 14 rfl rfl)
theorem dX5_anew_39 : decode cX5_anew 39 = .ok (.aload_n 0, 1) := dk_42 (dk_at dksX5_anew_1 17 rfl rfl)
theorem dX5_anew_40 : decode cX5_anew 40 = .ok (.getfield 7, 3) := dk_180 0 7 (dk_at dksX5_anew_1 18 rfl rfl)
theorem dX5_anew_43 : decode cX5_anew 43 = .ok (.iconst 4, 1) := dk_7 (dk_at dksX5_anew_1 21 rfl rfl)
theorem dX5_anew_44 : decode cX5_anew 44 = .ok (.iload 5, 2) := dk_21 5 (dk_at dksX5_anew_1 22 rfl rfl)
theorem dX5_anew_46 : decode cX5_anew 46 = .ok (.iadd, 1) := dk_96 (dk_at dksX5_anew_2 0 rfl rfl)
theorem dX5_anew_47 : decode cX5_anew 47 = .ok (.iload 5, 2) := dk_21 5 (dk_at dksX5_anew_2 1 rfl rfl)
theorem dX5_anew_49 : decode cX5_anew 49 = .ok (.iload_n 3, 1) := dk_29 (dk_at dksX5_anew_2 3 rfl rfl)
theorem dX5_anew_50 : decode cX5_anew 50 = .ok (.irem, 1) := dk_112 (dk_at dksX5_anew_2 4 rfl rfl)
theorem dX5_anew_51 : decode cX5_anew 51 = .ok (.iastore, 1) := dk_79 (dk_at dksX5_anew_2 5 rfl rfl)
theorem dX5_anew_52 : decode cX5_anew 52 = .ok (.aload_n 0, 1) := dk_42 (dk_at dksX5_anew_2 6 rfl rfl)
theorem dX5_anew_53 : decode cX5_anew 53 = .ok (.getfield 7, 3) := dk_180 0 7 (dk_at dksX5_anew_2 7 rfl rfl)
theorem dX5_anew_56 : decode cX5_anew 56 = .ok (.bipush 22, 2) := dk_16 22 (dk_at dksX5_anew_2 10 rfl rfl)
theorem dX5_anew_58 : decode cX5_anew 58 = .ok (.iload 5, 2) := dk_21 5 (dk_at dksX5_anew_2 12 rfl rfl)
theorem dX5_anew_60 : decode cX5_anew 60 = .ok (.iadd, 1) := dk_96 (dk_at dksX5_anew_2 14 rfl rfl)
theorem dX5_anew_61 : decode cX5_anew 61 = .ok (.iload 5, 2) := dk_21 5 (dk_at dksX5_anew_2 15 rfl rfl)
theorem dX5_anew_63 : decode cX5_anew 63 = .ok (.iload 4, 2) := dk_21 4 (dk_at dksX5_anew_2 17 rfl rfl)
theorem dX5_anew_65 : decode cX5_anew 65 = .ok (.irem, 1) := dk_112 (dk_at dksX5_anew_2 19 rfl rfl)
theorem dX5_anew_66 : decode cX5_anew 66 = .ok (.iastore, 1) := dk_79 (dk_at dksX5_anew_2 20 rfl rfl)
theorem dX5_anew_67 : decode cX5_anew 67 = .ok (.aload_n 0, 1) := dk_42 (dk_at dksX5_anew_2 21 rfl rfl)
theorem dX5_anew_68 : decode cX5_anew 68 = .ok (.getfield 7, 3) := dk_180 0 7 (dk_at dksX5_anew_3 0 rfl rfl)
theorem dX5_anew_71 : decode cX5_anew 71 = .ok (.bipush 34, 2) := dk_16 34 (dk_at dksX5_anew_3 3 rfl rfl)
theorem dX5_anew_73 : decode cX5_anew 73 = .ok (.iload 5, 2) := dk_21 5 (dk_at dksX5_anew_3 5 rfl rfl)
theorem dX5_anew_75 : decode cX5_anew 75 = .ok (.iadd, 1) := dk_96 (dk_at dksX5_anew_3 7 rfl rfl)
theorem dX5_anew_76 : decode cX5_anew 76 = .ok (.iconst 0, 1) := dk_3 (dk_at dksX5_anew_3 8 rfl rfl)
theorem dX5_anew_77 : decode cX5_anew 77 = .ok (.iastore, 1) := dk_79 (dk_at dksX5_anew_3 9 rfl rfl)
theorem dX5_anew_78 : decode cX5_anew 78 = .ok (.aload_n 0, 1) := dk_42 (dk_at dksX5_anew_3 10 rfl rfl)
theorem dX5_anew_79 : decode cX5_anew 79 = .ok (.getfield 7, 3) := dk_180 0 7 (dk_at dksX5_anew_3 11 rfl rfl)
theorem dX5_anew_82 : decode cX5_anew 82 = .ok (.bipush 46, 2) := dk_16 46 (dk_at dksX5_anew_3 14 rfl rfl)
theorem dX5_anew_84 : decode cX5_anew 84 = .ok (.iload 5, 2) := dk_21 5 (dk_at dksX5_anew_3 16 rfl rfl)
theorem dX5_anew_86 : decode cX5_anew 86 = .ok (.iadd, 1) := dk_96 (dk_at dksX5_anew_3 18 rfl rfl)
theorem dX5_anew_87 : decode cX5_anew 87 = .ok (.iconst 1, 1) := dk_4 (dk_at dksX5_anew_3 19 rfl rfl)
theorem dX5_anew_88 : decode cX5_anew 88 = .ok (.iastore, 1) := dk_79 (dk_at dksX5_anew_3 20 rfl rfl)
theorem dX5_anew_89 : decode cX5_anew 89 = .ok (.iinc 5 1, 3) := dk_132 5 1 (dk_at dksX5_anew_3 21 rfl rfl)
theorem dX5_anew_92 : decode cX5_anew 92 = .ok (.goto (-60), 3) := dk_167 255 196 (dk_at dksX5_anew_4 0 rfl rfl)
theorem dX5_anew_95 : decode cX5_anew 95 = .ok (.iconst 0, 1) := dk_3 (dk_at dksX5_anew_4 3 rfl rfl)
theorem dX5_anew_96 : decode cX5_anew 96 = .ok (.istore 5, 2) := dk_54 5 (dk_at dksX5_anew_4 4 rfl rfl)
theorem dX5_anew_98 : decode cX5_anew 98 = .ok (.iload 5, 2) := dk_21 5 (dk_at dksX5_anew_4 6 rfl rfl)
theorem dX5_anew_100 : decode cX5_anew 100 = .ok (.bipush 6, 2) := dk_16 6 (dk_at dksX5_anew_4 8 rfl rfl)
theorem dX5_anew_102 : decode cX5_anew 102 = .ok (.if_icmp .ge 36, 3) := dk_162 0 36 (dk_at dksX5_anew_4 10 rfl rfl)
theorem dX5_anew_105 : decode cX5_anew 105 = .ok (.aload_n 0, 1) := dk_42 (dk_at dksX5_anew_4 13 rfl rfl)
theorem dX5_anew_106 : decode cX5_anew 106 = .ok (.getfield 7, 3) := dk_180 0 7 (dk_at dksX5_anew_4 14 rfl rfl)
theorem dX5_anew_109 : decode cX5_anew 109 = .ok (.bipush 16, 2) := dk_16 16 (dk_at dksX5_anew_4 17 rfl rfl)
theorem dX5_anew_111 : decode cX5_anew 111 = .ok (.iload 5, 2) := dk_21 5 (dk_at dksX5_anew_4 19 rfl rfl)
theorem dX5_anew_113 : decode cX5_anew 113 = .ok (.iadd, 1) := dk_96 (dk_at dksX5_anew_4 21 rfl rfl)
theorem dX5_anew_114 : decode cX5_anew 114 = .ok (.iload 5, 2) := dk_21 5 (dk_at dksX5_anew_4 22 rfl rfl)
theorem dX5_anew_116 : decode cX5_anew 116 = .ok (.iload 4, 2) := dk_21 4 (dk_at dksX5_anew_5 0 rfl rfl)
theorem dX5_anew_118 : decode cX5_anew 118 = .ok (.if_icmp .ge 12, 3) := dk_162 0 12 (dk_at dksX5_anew_5 2 rfl rfl)
theorem dX5_anew_121 : decode cX5_anew 121 = .ok (.iconst 1, 1) := dk_4 (dk_at dksX5_anew_5 5 rfl rfl)
theorem dX5_anew_122 : decode cX5_anew 122 = .ok (.iload 5, 2) := dk_21 5 (dk_at dksX5_anew_5 6 rfl rfl)
theorem dX5_anew_124 : decode cX5_anew 124 = .ok (.iload_n 3, 1) := dk_29 (dk_at dksX5_anew_5 8 rfl rfl)
theorem dX5_anew_125 : decode cX5_anew 125 = .ok (.irem, 1) := dk_112 (dk_at dksX5_anew_5 9 rfl rfl)
theorem dX5_anew_126 : decode cX5_anew 126 = .ok (.ishl, 1) := dk_120 (dk_at dksX5_anew_5 10 rfl rfl)
theorem dX5_anew_127 : decode cX5_anew 127 = .ok (.goto 4, 3) := dk_167 0 4 (dk_at dksX5_anew_5 11 rfl rfl)
theorem dX5_anew_130 : decode cX5_anew 130 = .ok (.iconst 0, 1) := dk_3 (dk_at dksX5_anew_5 14 rfl rfl)
theorem dX5_anew_131 : decode cX5_anew 131 = .ok (.iastore, 1) := dk_79 (dk_at dksX5_anew_5 15 rfl rfl)
theorem dX5_anew_132 : decode cX5_anew 132 = .ok (.iinc 5 1, 3) := dk_132 5 1 (dk_at dksX5_anew_5 16 rfl rfl)
theorem dX5_anew_135 : decode cX5_anew 135 = .ok (.goto (-37), 3) := dk_167 255 219 (dk_at dksX5_anew_5 19 rfl rfl)
theorem dX5_anew_138 : decode cX5_anew 138 = .ok (.return_, 1) := dk_177 (dk_at dksX5_anew_5 22 rfl rfl)
abbrev cX5_write : ByteArray := prog_15_method_7_code
def yX5_write : MethodName := ⟨RX5, "write", "(I)I"⟩
def dkwX5_write_2 : List UInt8 := [181, 0, 51, 42, 180, 0, 51, 172]
abbrev dktX5_write_2 : List UInt8 := dkwX5_write_2 ++ []
def dkwX5_write_1 : List UInt8 := [160, 0, 6, 16, 251, 172, 42, 180, 0, 20, 42, 180, 0, 51, 27, 79, 42, 89, 180, 0, 51, 4, 96]
abbrev dktX5_write_1 : List UInt8 := dkwX5_write_1 ++ dktX5_write_2
def dkwX5_write_0 : List UInt8 := [27, 133, 9, 20, 0, 45, 184, 0, 47, 154, 0, 6, 16, 253, 172, 42, 180, 0, 51, 17, 0, 200]
abbrev dktX5_write_0 : List UInt8 := dkwX5_write_0 ++ dktX5_write_1
theorem dksX5_write_0 : cX5_write.data.toList.drop 0 = dktX5_write_0 := by decide +kernel
theorem dksX5_write_1 : cX5_write.data.toList.drop 22 = dktX5_write_1 := dk_seg dksX5_write_0 22 rfl rfl
theorem dksX5_write_2 : cX5_write.data.toList.drop 45 = dktX5_write_2 := dk_seg dksX5_write_1 23 rfl rfl
theorem dX5_write_0 : decode cX5_write 0 = .ok (.iload_n 1, 1) := dk_27 (dk_at dksX5_write_0 0 rfl rfl)
theorem dX5_write_1 : decode cX5_write 1 = .ok (.i2l, 1) := dk_133 (dk_at dksX5_write_0 1 rfl rfl)
theorem dX5_write_2 : decode cX5_write 2 = .ok (.lconst 0, 1) := dk_9 (dk_at dksX5_write_0 2 rfl rfl)
theorem dX5_write_3 : decode cX5_write 3 = .ok (.ldc2_w 45, 3) := dk_20 0 45 (dk_at dksX5_write_0 3 rfl rfl)
theorem dX5_write_6 : decode cX5_write 6 = .ok (.invokestatic 47, 3) := dk_184 0 47 (dk_at dksX5_write_0 6 rfl rfl)
theorem dX5_write_9 : decode cX5_write 9 = .ok (.ifCond .ne 6, 3) := dk_154 0 6 (dk_at dksX5_write_0 9 rfl rfl)
theorem dX5_write_12 : decode cX5_write 12 = .ok (.bipush (-3), 2) := dk_16 253 (dk_at dksX5_write_0 12 rfl rfl)
theorem dX5_write_14 : decode cX5_write 14 = .ok (.ireturn, 1) := dk_172 (dk_at dksX5_write_0 14 rfl rfl)
theorem dX5_write_15 : decode cX5_write 15 = .ok (.aload_n 0, 1) := dk_42 (dk_at dksX5_write_0 15 rfl rfl)
theorem dX5_write_16 : decode cX5_write 16 = .ok (.getfield 51, 3) := dk_180 0 51 (dk_at dksX5_write_0 16 rfl rfl)
theorem dX5_write_19 : decode cX5_write 19 = .ok (.sipush 200, 3) := dk_17 0 200 (dk_at dksX5_write_0 19 rfl rfl)
theorem dX5_write_22 : decode cX5_write 22 = .ok (.if_icmp .ne 6, 3) := dk_160 0 6 (dk_at dksX5_write_1 0 rfl rfl)
theorem dX5_write_25 : decode cX5_write 25 = .ok (.bipush (-5), 2) := dk_16 251 (dk_at dksX5_write_1 3 rfl rfl)
theorem dX5_write_27 : decode cX5_write 27 = .ok (.ireturn, 1) := dk_172 (dk_at dksX5_write_1 5 rfl rfl)
theorem dX5_write_28 : decode cX5_write 28 = .ok (.aload_n 0, 1) := dk_42 (dk_at dksX5_write_1 6 rfl rfl)
theorem dX5_write_29 : decode cX5_write 29 = .ok (.getfield 20, 3) := dk_180 0 20 (dk_at dksX5_write_1 7 rfl rfl)
theorem dX5_write_32 : decode cX5_write 32 = .ok (.aload_n 0, 1) := dk_42 (dk_at dksX5_write_1 10 rfl rfl)
theorem dX5_write_33 : decode cX5_write 33 = .ok (.getfield 51, 3) := dk_180 0 51 (dk_at dksX5_write_1 11 rfl rfl)
theorem dX5_write_36 : decode cX5_write 36 = .ok (.iload_n 1, 1) := dk_27 (dk_at dksX5_write_1 14 rfl rfl)
theorem dX5_write_37 : decode cX5_write 37 = .ok (.iastore, 1) := dk_79 (dk_at dksX5_write_1 15 rfl rfl)
theorem dX5_write_38 : decode cX5_write 38 = .ok (.aload_n 0, 1) := dk_42 (dk_at dksX5_write_1 16 rfl rfl)
theorem dX5_write_39 : decode cX5_write 39 = .ok (.dup, 1) := dk_89 (dk_at dksX5_write_1 17 rfl rfl)
theorem dX5_write_40 : decode cX5_write 40 = .ok (.getfield 51, 3) := dk_180 0 51 (dk_at dksX5_write_1 18 rfl rfl)
theorem dX5_write_43 : decode cX5_write 43 = .ok (.iconst 1, 1) := dk_4 (dk_at dksX5_write_1 21 rfl rfl)
theorem dX5_write_44 : decode cX5_write 44 = .ok (.iadd, 1) := dk_96 (dk_at dksX5_write_1 22 rfl rfl)
theorem dX5_write_45 : decode cX5_write 45 = .ok (.putfield 51, 3) := dk_181 0 51 (dk_at dksX5_write_2 0 rfl rfl)
theorem dX5_write_48 : decode cX5_write 48 = .ok (.aload_n 0, 1) := dk_42 (dk_at dksX5_write_2 3 rfl rfl)
theorem dX5_write_49 : decode cX5_write 49 = .ok (.getfield 51, 3) := dk_180 0 51 (dk_at dksX5_write_2 4 rfl rfl)
theorem dX5_write_52 : decode cX5_write 52 = .ok (.ireturn, 1) := dk_172 (dk_at dksX5_write_2 7 rfl rfl)
abbrev cX5_in : ByteArray := prog_15_method_2_code
def yX5_in : MethodName := ⟨RX5, "in", "(JJJ)Z"⟩
def dkwX5_in_0 : List UInt8 := [30, 32, 148, 155, 0, 14, 30, 22, 4, 148, 157, 0, 7, 4, 167, 0, 4, 3, 172]
abbrev dktX5_in_0 : List UInt8 := dkwX5_in_0 ++ []
theorem dksX5_in_0 : cX5_in.data.toList.drop 0 = dktX5_in_0 := by decide +kernel
theorem dX5_in_0 : decode cX5_in 0 = .ok (.lload_n 0, 1) := dk_30 (dk_at dksX5_in_0 0 rfl rfl)
theorem dX5_in_1 : decode cX5_in 1 = .ok (.lload_n 2, 1) := dk_32 (dk_at dksX5_in_0 1 rfl rfl)
theorem dX5_in_2 : decode cX5_in 2 = .ok (.lcmp, 1) := dk_148 (dk_at dksX5_in_0 2 rfl rfl)
theorem dX5_in_3 : decode cX5_in 3 = .ok (.ifCond .lt 14, 3) := dk_155 0 14 (dk_at dksX5_in_0 3 rfl rfl)
theorem dX5_in_6 : decode cX5_in 6 = .ok (.lload_n 0, 1) := dk_30 (dk_at dksX5_in_0 6 rfl rfl)
theorem dX5_in_7 : decode cX5_in 7 = .ok (.lload 4, 2) := dk_22 4 (dk_at dksX5_in_0 7 rfl rfl)
theorem dX5_in_9 : decode cX5_in 9 = .ok (.lcmp, 1) := dk_148 (dk_at dksX5_in_0 9 rfl rfl)
theorem dX5_in_10 : decode cX5_in 10 = .ok (.ifCond .gt 7, 3) := dk_157 0 7 (dk_at dksX5_in_0 10 rfl rfl)
theorem dX5_in_13 : decode cX5_in 13 = .ok (.iconst 1, 1) := dk_4 (dk_at dksX5_in_0 13 rfl rfl)
theorem dX5_in_14 : decode cX5_in 14 = .ok (.goto 4, 3) := dk_167 0 4 (dk_at dksX5_in_0 14 rfl rfl)
theorem dX5_in_17 : decode cX5_in 17 = .ok (.iconst 0, 1) := dk_3 (dk_at dksX5_in_0 17 rfl rfl)
theorem dX5_in_18 : decode cX5_in 18 = .ok (.ireturn, 1) := dk_172 (dk_at dksX5_in_0 18 rfl rfl)
abbrev cX5_erase : ByteArray := prog_15_method_8_code
def yX5_erase : MethodName := ⟨RX5, "erase", "()I"⟩
def dkwX5_erase_0 : List UInt8 := [42, 180, 0, 51, 60, 42, 3, 181, 0, 51, 27, 172]
abbrev dktX5_erase_0 : List UInt8 := dkwX5_erase_0 ++ []
theorem dksX5_erase_0 : cX5_erase.data.toList.drop 0 = dktX5_erase_0 := by decide +kernel
theorem dX5_erase_0 : decode cX5_erase 0 = .ok (.aload_n 0, 1) := dk_42 (dk_at dksX5_erase_0 0 rfl rfl)
theorem dX5_erase_1 : decode cX5_erase 1 = .ok (.getfield 51, 3) := dk_180 0 51 (dk_at dksX5_erase_0 1 rfl rfl)
theorem dX5_erase_4 : decode cX5_erase 4 = .ok (.istore_n 1, 1) := dk_60 (dk_at dksX5_erase_0 4 rfl rfl)
theorem dX5_erase_5 : decode cX5_erase 5 = .ok (.aload_n 0, 1) := dk_42 (dk_at dksX5_erase_0 5 rfl rfl)
theorem dX5_erase_6 : decode cX5_erase 6 = .ok (.iconst 0, 1) := dk_3 (dk_at dksX5_erase_0 6 rfl rfl)
theorem dX5_erase_7 : decode cX5_erase 7 = .ok (.putfield 51, 3) := dk_181 0 51 (dk_at dksX5_erase_0 7 rfl rfl)
theorem dX5_erase_10 : decode cX5_erase 10 = .ok (.iload_n 1, 1) := dk_27 (dk_at dksX5_erase_0 10 rfl rfl)
theorem dX5_erase_11 : decode cX5_erase 11 = .ok (.ireturn, 1) := dk_172 (dk_at dksX5_erase_0 11 rfl rfl)
abbrev cX5_fault : ByteArray := prog_15_method_20_code
def yX5_fault : MethodName := ⟨RX5, "fault", "()I"⟩
def dkwX5_fault_0 : List UInt8 := [42, 3, 182, 0, 117, 153, 0, 7, 2, 167, 0, 7, 42, 180, 0, 66, 172]
abbrev dktX5_fault_0 : List UInt8 := dkwX5_fault_0 ++ []
theorem dksX5_fault_0 : cX5_fault.data.toList.drop 0 = dktX5_fault_0 := by decide +kernel
theorem dX5_fault_0 : decode cX5_fault 0 = .ok (.aload_n 0, 1) := dk_42 (dk_at dksX5_fault_0 0 rfl rfl)
theorem dX5_fault_1 : decode cX5_fault 1 = .ok (.iconst 0, 1) := dk_3 (dk_at dksX5_fault_0 1 rfl rfl)
theorem dX5_fault_2 : decode cX5_fault 2 = .ok (.invokevirtual 117, 3) := dk_182 0 117 (dk_at dksX5_fault_0 2 rfl rfl)
theorem dX5_fault_5 : decode cX5_fault 5 = .ok (.ifCond .eq 7, 3) := dk_153 0 7 (dk_at dksX5_fault_0 5 rfl rfl)
theorem dX5_fault_8 : decode cX5_fault 8 = .ok (.iconst (-1), 1) := dk_2 (dk_at dksX5_fault_0 8 rfl rfl)
theorem dX5_fault_9 : decode cX5_fault 9 = .ok (.goto 7, 3) := dk_167 0 7 (dk_at dksX5_fault_0 9 rfl rfl)
theorem dX5_fault_12 : decode cX5_fault 12 = .ok (.aload_n 0, 1) := dk_42 (dk_at dksX5_fault_0 12 rfl rfl)
theorem dX5_fault_13 : decode cX5_fault 13 = .ok (.getfield 66, 3) := dk_180 0 66 (dk_at dksX5_fault_0 13 rfl rfl)
theorem dX5_fault_16 : decode cX5_fault 16 = .ok (.ireturn, 1) := dk_172 (dk_at dksX5_fault_0 16 rfl rfl)
abbrev cX5_reads : ByteArray := prog_15_method_19_code
def yX5_reads : MethodName := ⟨RX5, "reads", "(Z)Z"⟩
def dkwX5_reads_5 : List UInt8 := [182, 0, 76, 42, 182, 0, 114, 61, 42, 89, 180, 0, 111, 4, 96, 181, 0, 111, 167, 255, 189, 28, 172]
abbrev dktX5_reads_5 : List UInt8 := dkwX5_reads_5 ++ []
def dkwX5_reads_4 : List UInt8 := [180, 0, 20, 42, 180, 0, 66, 46, 16, 59, 160, 0, 7, 4, 167, 0, 4, 3, 61, 28, 153, 255, 211, 42]
abbrev dktX5_reads_4 : List UInt8 := dkwX5_reads_4 ++ dktX5_reads_5
def dkwX5_reads_3 : List UInt8 := [153, 0, 69, 42, 180, 0, 66, 42, 180, 0, 51, 162, 0, 58, 42, 180, 0, 111, 16, 24, 162, 0, 21, 42]
abbrev dktX5_reads_3 : List UInt8 := dkwX5_reads_3 ++ dktX5_reads_4
def dkwX5_reads_2 : List UInt8 := [180, 0, 87, 79, 42, 180, 0, 29, 8, 42, 180, 0, 90, 79, 42, 182, 0, 76, 42, 182, 0, 114, 61, 28]
abbrev dktX5_reads_2 : List UInt8 := dkwX5_reads_2 ++ dktX5_reads_3
def dkwX5_reads_1 : List UInt8 := [180, 0, 29, 28, 42, 180, 0, 7, 28, 46, 79, 132, 2, 1, 167, 255, 236, 42, 180, 0, 29, 7, 42]
abbrev dktX5_reads_1 : List UInt8 := dkwX5_reads_1 ++ dktX5_reads_2
def dkwX5_reads_0 : List UInt8 := [42, 27, 181, 0, 104, 42, 3, 181, 0, 63, 42, 4, 181, 0, 111, 3, 61, 28, 7, 162, 0, 21, 42]
abbrev dktX5_reads_0 : List UInt8 := dkwX5_reads_0 ++ dktX5_reads_1
theorem dksX5_reads_0 : cX5_reads.data.toList.drop 0 = dktX5_reads_0 := by decide +kernel
theorem dksX5_reads_1 : cX5_reads.data.toList.drop 23 = dktX5_reads_1 := dk_seg dksX5_reads_0 23 rfl rfl
theorem dksX5_reads_2 : cX5_reads.data.toList.drop 46 = dktX5_reads_2 := dk_seg dksX5_reads_1 23 rfl rfl
theorem dksX5_reads_3 : cX5_reads.data.toList.drop 70 = dktX5_reads_3 := dk_seg dksX5_reads_2 24 rfl rfl
theorem dksX5_reads_4 : cX5_reads.data.toList.drop 94 = dktX5_reads_4 := dk_seg dksX5_reads_3 24 rfl rfl
theorem dksX5_reads_5 : cX5_reads.data.toList.drop 118 = dktX5_reads_5 := dk_seg dksX5_reads_4 24 rfl rfl
theorem dX5_reads_0 : decode cX5_reads 0 = .ok (.aload_n 0, 1) := dk_42 (dk_at dksX5_reads_0 0 rfl rfl)
theorem dX5_reads_1 : decode cX5_reads 1 = .ok (.iload_n 1, 1) := dk_27 (dk_at dksX5_reads_0 1 rfl rfl)
theorem dX5_reads_2 : decode cX5_reads 2 = .ok (.putfield 104, 3) := dk_181 0 104 (dk_at dksX5_reads_0 2 rfl rfl)
theorem dX5_reads_5 : decode cX5_reads 5 = .ok (.aload_n 0, 1) := dk_42 (dk_at dksX5_reads_0 5 rfl rfl)
theorem dX5_reads_6 : decode cX5_reads 6 = .ok (.iconst 0, 1) := dk_3 (dk_at dksX5_reads_0 6 rfl rfl)
theorem dX5_reads_7 : decode cX5_reads 7 = .ok (.putfield 63, 3) := dk_181 0 63 (dk_at dksX5_reads_0 7 rfl rfl)
theorem dX5_reads_10 : decode cX5_reads 10 = .ok (.aload_n 0, 1) := dk_42 (dk_at dksX5_reads_0 10 rfl rfl)
theorem dX5_reads_11 : decode cX5_reads 11 = .ok (.iconst 1, 1) := dk_4 (dk_at dksX5_reads_0 11 rfl rfl)
theorem dX5_reads_12 : decode cX5_reads 12 = .ok (.putfield 111, 3) := dk_181 0 111 (dk_at dksX5_reads_0 12 rfl rfl)
theorem dX5_reads_15 : decode cX5_reads 15 = .ok (.iconst 0, 1) := dk_3 (dk_at dksX5_reads_0 15 rfl rfl)
theorem dX5_reads_16 : decode cX5_reads 16 = .ok (.istore_n 2, 1) := dk_61 (dk_at dksX5_reads_0 16 rfl rfl)
theorem dX5_reads_17 : decode cX5_reads 17 = .ok (.iload_n 2, 1) := dk_28 (dk_at dksX5_reads_0 17 rfl rfl)
theorem dX5_reads_18 : decode cX5_reads 18 = .ok (.iconst 4, 1) := dk_7 (dk_at dksX5_reads_0 18 rfl rfl)
theorem dX5_reads_19 : decode cX5_reads 19 = .ok (.if_icmp .ge 21, 3) := dk_162 0 21 (dk_at dksX5_reads_0 19 rfl rfl)
theorem dX5_reads_22 : decode cX5_reads 22 = .ok (.aload_n 0, 1) := dk_42 (dk_at dksX5_reads_0 22 rfl rfl)
theorem dX5_reads_23 : decode cX5_reads 23 = .ok (.getfield 29, 3) := dk_180 0 29 (dk_at dksX5_reads_1 0 rfl rfl)
theorem dX5_reads_26 : decode cX5_reads 26 = .ok (.iload_n 2, 1) := dk_28 (dk_at dksX5_reads_1 3 rfl rfl)
theorem dX5_reads_27 : decode cX5_reads 27 = .ok (.aload_n 0, 1) := dk_42 (dk_at dksX5_reads_1 4 rfl rfl)
theorem dX5_reads_28 : decode cX5_reads 28 = .ok (.getfield 7, 3) := dk_180 0 7 (dk_at dksX5_reads_1 5 rfl rfl)
theorem dX5_reads_31 : decode cX5_reads 31 = .ok (.iload_n 2, 1) := dk_28 (dk_at dksX5_reads_1 8 rfl rfl)
theorem dX5_reads_32 : decode cX5_reads 32 = .ok (.iaload, 1) := dk_46 (dk_at dksX5_reads_1 9 rfl rfl)
theorem dX5_reads_33 : decode cX5_reads 33 = .ok (.iastore, 1) := dk_79 (dk_at dksX5_reads_1 10 rfl rfl)
theorem dX5_reads_34 : decode cX5_reads 34 = .ok (.iinc 2 1, 3) := dk_132 2 1 (dk_at dksX5_reads_1 11 rfl rfl)
theorem dX5_reads_37 : decode cX5_reads 37 = .ok (.goto (-20), 3) := dk_167 255 236 (dk_at dksX5_reads_1 14 rfl rfl)
theorem dX5_reads_40 : decode cX5_reads 40 = .ok (.aload_n 0, 1) := dk_42 (dk_at dksX5_reads_1 17 rfl rfl)
theorem dX5_reads_41 : decode cX5_reads 41 = .ok (.getfield 29, 3) := dk_180 0 29 (dk_at dksX5_reads_1 18 rfl rfl)
theorem dX5_reads_44 : decode cX5_reads 44 = .ok (.iconst 4, 1) := dk_7 (dk_at dksX5_reads_1 21 rfl rfl)
theorem dX5_reads_45 : decode cX5_reads 45 = .ok (.aload_n 0, 1) := dk_42 (dk_at dksX5_reads_1 22 rfl rfl)
theorem dX5_reads_46 : decode cX5_reads 46 = .ok (.getfield 87, 3) := dk_180 0 87 (dk_at dksX5_reads_2 0 rfl rfl)
theorem dX5_reads_49 : decode cX5_reads 49 = .ok (.iastore, 1) := dk_79 (dk_at dksX5_reads_2 3 rfl rfl)
theorem dX5_reads_50 : decode cX5_reads 50 = .ok (.aload_n 0, 1) := dk_42 (dk_at dksX5_reads_2 4 rfl rfl)
theorem dX5_reads_51 : decode cX5_reads 51 = .ok (.getfield 29, 3) := dk_180 0 29 (dk_at dksX5_reads_2 5 rfl rfl)
theorem dX5_reads_54 : decode cX5_reads 54 = .ok (.iconst 5, 1) := dk_8 (dk_at dksX5_reads_2 8 rfl rfl)
theorem dX5_reads_55 : decode cX5_reads 55 = .ok (.aload_n 0, 1) := dk_42 (dk_at dksX5_reads_2 9 rfl rfl)
theorem dX5_reads_56 : decode cX5_reads 56 = .ok (.getfield 90, 3) := dk_180 0 90 (dk_at dksX5_reads_2 10 rfl rfl)
theorem dX5_reads_59 : decode cX5_reads 59 = .ok (.iastore, 1) := dk_79 (dk_at dksX5_reads_2 13 rfl rfl)
theorem dX5_reads_60 : decode cX5_reads 60 = .ok (.aload_n 0, 1) := dk_42 (dk_at dksX5_reads_2 14 rfl rfl)
theorem dX5_reads_61 : decode cX5_reads 61 = .ok (.invokevirtual 76, 3) := dk_182 0 76 (dk_at dksX5_reads_2 15 rfl rfl)
theorem dX5_reads_64 : decode cX5_reads 64 = .ok (.aload_n 0, 1) := dk_42 (dk_at dksX5_reads_2 18 rfl rfl)
theorem dX5_reads_65 : decode cX5_reads 65 = .ok (.invokevirtual 114, 3) := dk_182 0 114 (dk_at dksX5_reads_2 19 rfl rfl)
theorem dX5_reads_68 : decode cX5_reads 68 = .ok (.istore_n 2, 1) := dk_61 (dk_at dksX5_reads_2 22 rfl rfl)
theorem dX5_reads_69 : decode cX5_reads 69 = .ok (.iload_n 2, 1) := dk_28 (dk_at dksX5_reads_2 23 rfl rfl)
theorem dX5_reads_70 : decode cX5_reads 70 = .ok (.ifCond .eq 69, 3) := dk_153 0 69 (dk_at dksX5_reads_3 0 rfl rfl)
theorem dX5_reads_73 : decode cX5_reads 73 = .ok (.aload_n 0, 1) := dk_42 (dk_at dksX5_reads_3 3 rfl rfl)
theorem dX5_reads_74 : decode cX5_reads 74 = .ok (.getfield 66, 3) := dk_180 0 66 (dk_at dksX5_reads_3 4 rfl rfl)
theorem dX5_reads_77 : decode cX5_reads 77 = .ok (.aload_n 0, 1) := dk_42 (dk_at dksX5_reads_3 7 rfl rfl)
theorem dX5_reads_78 : decode cX5_reads 78 = .ok (.getfield 51, 3) := dk_180 0 51 (dk_at dksX5_reads_3 8 rfl rfl)
theorem dX5_reads_81 : decode cX5_reads 81 = .ok (.if_icmp .ge 58, 3) := dk_162 0 58 (dk_at dksX5_reads_3 11 rfl rfl)
theorem dX5_reads_84 : decode cX5_reads 84 = .ok (.aload_n 0, 1) := dk_42 (dk_at dksX5_reads_3 14 rfl rfl)
theorem dX5_reads_85 : decode cX5_reads 85 = .ok (.getfield 111, 3) := dk_180 0 111 (dk_at dksX5_reads_3 15 rfl rfl)
theorem dX5_reads_88 : decode cX5_reads 88 = .ok (.bipush 24, 2) := dk_16 24 (dk_at dksX5_reads_3 18 rfl rfl)
theorem dX5_reads_90 : decode cX5_reads 90 = .ok (.if_icmp .ge 21, 3) := dk_162 0 21 (dk_at dksX5_reads_3 20 rfl rfl)
theorem dX5_reads_93 : decode cX5_reads 93 = .ok (.aload_n 0, 1) := dk_42 (dk_at dksX5_reads_3 23 rfl rfl)
theorem dX5_reads_94 : decode cX5_reads 94 = .ok (.getfield 20, 3) := dk_180 0 20 (dk_at dksX5_reads_4 0 rfl rfl)
theorem dX5_reads_97 : decode cX5_reads 97 = .ok (.aload_n 0, 1) := dk_42 (dk_at dksX5_reads_4 3 rfl rfl)
theorem dX5_reads_98 : decode cX5_reads 98 = .ok (.getfield 66, 3) := dk_180 0 66 (dk_at dksX5_reads_4 4 rfl rfl)
theorem dX5_reads_101 : decode cX5_reads 101 = .ok (.iaload, 1) := dk_46 (dk_at dksX5_reads_4 7 rfl rfl)
theorem dX5_reads_102 : decode cX5_reads 102 = .ok (.bipush 59, 2) := dk_16 59 (dk_at dksX5_reads_4 8 rfl rfl)
theorem dX5_reads_104 : decode cX5_reads 104 = .ok (.if_icmp .ne 7, 3) := dk_160 0 7 (dk_at dksX5_reads_4 10 rfl rfl)
theorem dX5_reads_107 : decode cX5_reads 107 = .ok (.iconst 1, 1) := dk_4 (dk_at dksX5_reads_4 13 rfl rfl)
theorem dX5_reads_108 : decode cX5_reads 108 = .ok (.goto 4, 3) := dk_167 0 4 (dk_at dksX5_reads_4 14 rfl rfl)
theorem dX5_reads_111 : decode cX5_reads 111 = .ok (.iconst 0, 1) := dk_3 (dk_at dksX5_reads_4 17 rfl rfl)
theorem dX5_reads_112 : decode cX5_reads 112 = .ok (.istore_n 2, 1) := dk_61 (dk_at dksX5_reads_4 18 rfl rfl)
theorem dX5_reads_113 : decode cX5_reads 113 = .ok (.iload_n 2, 1) := dk_28 (dk_at dksX5_reads_4 19 rfl rfl)
theorem dX5_reads_114 : decode cX5_reads 114 = .ok (.ifCond .eq (-45), 3) := dk_153 255 211 (dk_at dksX5_reads_4 20 rfl rfl)
theorem dX5_reads_117 : decode cX5_reads 117 = .ok (.aload_n 0, 1) := dk_42 (dk_at dksX5_reads_4 23 rfl rfl)
theorem dX5_reads_118 : decode cX5_reads 118 = .ok (.invokevirtual 76, 3) := dk_182 0 76 (dk_at dksX5_reads_5 0 rfl rfl)
theorem dX5_reads_121 : decode cX5_reads 121 = .ok (.aload_n 0, 1) := dk_42 (dk_at dksX5_reads_5 3 rfl rfl)
theorem dX5_reads_122 : decode cX5_reads 122 = .ok (.invokevirtual 114, 3) := dk_182 0 114 (dk_at dksX5_reads_5 4 rfl rfl)
theorem dX5_reads_125 : decode cX5_reads 125 = .ok (.istore_n 2, 1) := dk_61 (dk_at dksX5_reads_5 7 rfl rfl)
theorem dX5_reads_126 : decode cX5_reads 126 = .ok (.aload_n 0, 1) := dk_42 (dk_at dksX5_reads_5 8 rfl rfl)
theorem dX5_reads_127 : decode cX5_reads 127 = .ok (.dup, 1) := dk_89 (dk_at dksX5_reads_5 9 rfl rfl)
theorem dX5_reads_128 : decode cX5_reads 128 = .ok (.getfield 111, 3) := dk_180 0 111 (dk_at dksX5_reads_5 10 rfl rfl)
theorem dX5_reads_131 : decode cX5_reads 131 = .ok (.iconst 1, 1) := dk_4 (dk_at dksX5_reads_5 13 rfl rfl)
theorem dX5_reads_132 : decode cX5_reads 132 = .ok (.iadd, 1) := dk_96 (dk_at dksX5_reads_5 14 rfl rfl)
theorem dX5_reads_133 : decode cX5_reads 133 = .ok (.putfield 111, 3) := dk_181 0 111 (dk_at dksX5_reads_5 15 rfl rfl)
theorem dX5_reads_136 : decode cX5_reads 136 = .ok (.goto (-67), 3) := dk_167 255 189 (dk_at dksX5_reads_5 18 rfl rfl)
theorem dX5_reads_139 : decode cX5_reads 139 = .ok (.iload_n 2, 1) := dk_28 (dk_at dksX5_reads_5 21 rfl rfl)
theorem dX5_reads_140 : decode cX5_reads 140 = .ok (.ireturn, 1) := dk_172 (dk_at dksX5_reads_5 22 rfl rfl)
abbrev cX5_nextToken : ByteArray := prog_15_method_11_code
def yX5_nextToken : MethodName := ⟨RX5, "nextToken", "()V"⟩
def dkwX5_nextToken_8 : List UInt8 := [184, 0, 73, 153, 0, 16, 42, 89, 180, 0, 63, 4, 96, 181, 0, 63, 167, 255, 220, 177]
abbrev dktX5_nextToken_8 : List UInt8 := dkwX5_nextToken_8 ++ []
def dkwX5_nextToken_7 : List UInt8 := [153, 0, 42, 42, 180, 0, 63, 42, 180, 0, 51, 162, 0, 31, 42, 180, 0, 20, 42, 180, 0, 63, 46]
abbrev dktX5_nextToken_7 : List UInt8 := dkwX5_nextToken_7 ++ dktX5_nextToken_8
def dkwX5_nextToken_6 : List UInt8 := [180, 0, 66, 42, 180, 0, 51, 162, 0, 57, 42, 180, 0, 20, 42, 180, 0, 66, 46, 184, 0, 73]
abbrev dktX5_nextToken_6 : List UInt8 := dkwX5_nextToken_6 ++ dktX5_nextToken_7
def dkwX5_nextToken_5 : List UInt8 := [180, 0, 63, 46, 184, 0, 69, 153, 0, 81, 42, 89, 180, 0, 63, 4, 96, 181, 0, 63, 167, 255, 220, 42]
abbrev dktX5_nextToken_5 : List UInt8 := dkwX5_nextToken_5 ++ dktX5_nextToken_6
def dkwX5_nextToken_4 : List UInt8 := [184, 0, 69, 153, 0, 42, 42, 180, 0, 63, 42, 180, 0, 51, 162, 0, 96, 42, 180, 0, 20, 42]
abbrev dktX5_nextToken_4 : List UInt8 := dkwX5_nextToken_4 ++ dktX5_nextToken_5
def dkwX5_nextToken_3 : List UInt8 := [181, 0, 63, 42, 180, 0, 66, 42, 180, 0, 51, 162, 0, 57, 42, 180, 0, 20, 42, 180, 0, 66, 46]
abbrev dktX5_nextToken_3 : List UInt8 := dkwX5_nextToken_3 ++ dktX5_nextToken_4
def dkwX5_nextToken_2 : List UInt8 := [180, 0, 66, 42, 180, 0, 51, 162, 0, 12, 42, 180, 0, 66, 4, 96, 167, 0, 7, 42, 180, 0, 66]
abbrev dktX5_nextToken_2 : List UInt8 := dkwX5_nextToken_2 ++ dktX5_nextToken_3
def dkwX5_nextToken_1 : List UInt8 := [180, 0, 66, 46, 16, 32, 160, 0, 16, 42, 89, 180, 0, 66, 4, 96, 181, 0, 66, 167, 255, 221, 42, 42]
abbrev dktX5_nextToken_1 : List UInt8 := dkwX5_nextToken_1 ++ dktX5_nextToken_2
def dkwX5_nextToken_0 : List UInt8 := [42, 42, 180, 0, 63, 181, 0, 66, 42, 180, 0, 66, 42, 180, 0, 51, 162, 0, 30, 42, 180, 0, 20, 42]
abbrev dktX5_nextToken_0 : List UInt8 := dkwX5_nextToken_0 ++ dktX5_nextToken_1
theorem dksX5_nextToken_0 : cX5_nextToken.data.toList.drop 0 = dktX5_nextToken_0 := by decide +kernel
theorem dksX5_nextToken_1 : cX5_nextToken.data.toList.drop 24 = dktX5_nextToken_1 := dk_seg dksX5_nextToken_0 24 rfl rfl
theorem dksX5_nextToken_2 : cX5_nextToken.data.toList.drop 48 = dktX5_nextToken_2 := dk_seg dksX5_nextToken_1 24 rfl rfl
theorem dksX5_nextToken_3 : cX5_nextToken.data.toList.drop 71 = dktX5_nextToken_3 := dk_seg dksX5_nextToken_2 23 rfl rfl
theorem dksX5_nextToken_4 : cX5_nextToken.data.toList.drop 94 = dktX5_nextToken_4 := dk_seg dksX5_nextToken_3 23 rfl rfl
theorem dksX5_nextToken_5 : cX5_nextToken.data.toList.drop 116 = dktX5_nextToken_5 := dk_seg dksX5_nextToken_4 22 rfl rfl
theorem dksX5_nextToken_6 : cX5_nextToken.data.toList.drop 140 = dktX5_nextToken_6 := dk_seg dksX5_nextToken_5 24 rfl rfl
theorem dksX5_nextToken_7 : cX5_nextToken.data.toList.drop 162 = dktX5_nextToken_7 := dk_seg dksX5_nextToken_6 22 rfl rfl
theorem dksX5_nextToken_8 : cX5_nextToken.data.toList.drop 185 = dktX5_nextToken_8 := dk_seg dksX5_nextToken_7 23 rfl rfl
theorem dX5_nextToken_0 : decode cX5_nextToken 0 = .ok (.aload_n 0, 1) := dk_42 (dk_at dksX5_nextToken_0 0 rfl rfl)
theorem dX5_nextToken_1 : decode cX5_nextToken 1 = .ok (.aload_n 0, 1) := dk_42 (dk_at dksX5_nextToken_0 1 rfl rfl)
theorem dX5_nextToken_2 : decode cX5_nextToken 2 = .ok (.getfield 63, 3) := dk_180 0 63 (dk_at dksX5_nextToken_0 2 rfl rfl)
theorem dX5_nextToken_5 : decode cX5_nextToken 5 = .ok (.putfield 66, 3) := dk_181 0 66 (dk_at dksX5_nextToken_0 5 rfl rfl)
theorem dX5_nextToken_8 : decode cX5_nextToken 8 = .ok (.aload_n 0, 1) := dk_42 (dk_at dksX5_nextToken_0 8 rfl rfl)
theorem dX5_nextToken_9 : decode cX5_nextToken 9 = .ok (.getfield 66, 3) := dk_180 0 66 (dk_at dksX5_nextToken_0 9 rfl rfl)
theorem dX5_nextToken_12 : decode cX5_nextToken 12 = .ok (.aload_n 0, 1) := dk_42 (dk_at dksX5_nextToken_0 12 rfl rfl)
theorem dX5_nextToken_13 : decode cX5_nextToken 13 = .ok (.getfield 51, 3) := dk_180 0 51 (dk_at dksX5_nextToken_0 13 rfl rfl)
theorem dX5_nextToken_16 : decode cX5_nextToken 16 = .ok (.if_icmp .ge 30, 3) := dk_162 0 30 (dk_at dksX5_nextToken_0 16 rfl rfl)
theorem dX5_nextToken_19 : decode cX5_nextToken 19 = .ok (.aload_n 0, 1) := dk_42 (dk_at dksX5_nextToken_0 19 rfl rfl)
theorem dX5_nextToken_20 : decode cX5_nextToken 20 = .ok (.getfield 20, 3) := dk_180 0 20 (dk_at dksX5_nextToken_0 20 rfl rfl)
theorem dX5_nextToken_23 : decode cX5_nextToken 23 = .ok (.aload_n 0, 1) := dk_42 (dk_at dksX5_nextToken_0 23 rfl rfl)
theorem dX5_nextToken_24 : decode cX5_nextToken 24 = .ok (.getfield 66, 3) := dk_180 0 66 (dk_at dksX5_nextToken_1 0 rfl rfl)
theorem dX5_nextToken_27 : decode cX5_nextToken 27 = .ok (.iaload, 1) := dk_46 (dk_at dksX5_nextToken_1 3 rfl rfl)
theorem dX5_nextToken_28 : decode cX5_nextToken 28 = .ok (.bipush 32, 2) := dk_16 32 (dk_at dksX5_nextToken_1 4 rfl rfl)
theorem dX5_nextToken_30 : decode cX5_nextToken 30 = .ok (.if_icmp .ne 16, 3) := dk_160 0 16 (dk_at dksX5_nextToken_1 6 rfl rfl)
theorem dX5_nextToken_33 : decode cX5_nextToken 33 = .ok (.aload_n 0, 1) := dk_42 (dk_at dksX5_nextToken_1 9 rfl rfl)
theorem dX5_nextToken_34 : decode cX5_nextToken 34 = .ok (.dup, 1) := dk_89 (dk_at dksX5_nextToken_1 10 rfl rfl)
theorem dX5_nextToken_35 : decode cX5_nextToken 35 = .ok (.getfield 66, 3) := dk_180 0 66 (dk_at dksX5_nextToken_1 11 rfl rfl)
theorem dX5_nextToken_38 : decode cX5_nextToken 38 = .ok (.iconst 1, 1) := dk_4 (dk_at dksX5_nextToken_1 14 rfl rfl)
theorem dX5_nextToken_39 : decode cX5_nextToken 39 = .ok (.iadd, 1) := dk_96 (dk_at dksX5_nextToken_1 15 rfl rfl)
theorem dX5_nextToken_40 : decode cX5_nextToken 40 = .ok (.putfield 66, 3) := dk_181 0 66 (dk_at dksX5_nextToken_1 16 rfl rfl)
theorem dX5_nextToken_43 : decode cX5_nextToken 43 = .ok (.goto (-35), 3) := dk_167 255 221 (dk_at dksX5_nextToken_1 19 rfl rfl)
theorem dX5_nextToken_46 : decode cX5_nextToken 46 = .ok (.aload_n 0, 1) := dk_42 (dk_at dksX5_nextToken_1 22 rfl rfl)
theorem dX5_nextToken_47 : decode cX5_nextToken 47 = .ok (.aload_n 0, 1) := dk_42 (dk_at dksX5_nextToken_1 23 rfl rfl)
theorem dX5_nextToken_48 : decode cX5_nextToken 48 = .ok (.getfield 66, 3) := dk_180 0 66 (dk_at dksX5_nextToken_2 0 rfl rfl)
theorem dX5_nextToken_51 : decode cX5_nextToken 51 = .ok (.aload_n 0, 1) := dk_42 (dk_at dksX5_nextToken_2 3 rfl rfl)
theorem dX5_nextToken_52 : decode cX5_nextToken 52 = .ok (.getfield 51, 3) := dk_180 0 51 (dk_at dksX5_nextToken_2 4 rfl rfl)
theorem dX5_nextToken_55 : decode cX5_nextToken 55 = .ok (.if_icmp .ge 12, 3) := dk_162 0 12 (dk_at dksX5_nextToken_2 7 rfl rfl)
theorem dX5_nextToken_58 : decode cX5_nextToken 58 = .ok (.aload_n 0, 1) := dk_42 (dk_at dksX5_nextToken_2 10 rfl rfl)
theorem dX5_nextToken_59 : decode cX5_nextToken 59 = .ok (.getfield 66, 3) := dk_180 0 66 (dk_at dksX5_nextToken_2 11 rfl rfl)
theorem dX5_nextToken_62 : decode cX5_nextToken 62 = .ok (.iconst 1, 1) := dk_4 (dk_at dksX5_nextToken_2 14 rfl rfl)
theorem dX5_nextToken_63 : decode cX5_nextToken 63 = .ok (.iadd, 1) := dk_96 (dk_at dksX5_nextToken_2 15 rfl rfl)
theorem dX5_nextToken_64 : decode cX5_nextToken 64 = .ok (.goto 7, 3) := dk_167 0 7 (dk_at dksX5_nextToken_2 16 rfl rfl)
theorem dX5_nextToken_67 : decode cX5_nextToken 67 = .ok (.aload_n 0, 1) := dk_42 (dk_at dksX5_nextToken_2 19 rfl rfl)
theorem dX5_nextToken_68 : decode cX5_nextToken 68 = .ok (.getfield 66, 3) := dk_180 0 66 (dk_at dksX5_nextToken_2 20 rfl rfl)
theorem dX5_nextToken_71 : decode cX5_nextToken 71 = .ok (.putfield 63, 3) := dk_181 0 63 (dk_at dksX5_nextToken_3 0 rfl rfl)
theorem dX5_nextToken_74 : decode cX5_nextToken 74 = .ok (.aload_n 0, 1) := dk_42 (dk_at dksX5_nextToken_3 3 rfl rfl)
theorem dX5_nextToken_75 : decode cX5_nextToken 75 = .ok (.getfield 66, 3) := dk_180 0 66 (dk_at dksX5_nextToken_3 4 rfl rfl)
theorem dX5_nextToken_78 : decode cX5_nextToken 78 = .ok (.aload_n 0, 1) := dk_42 (dk_at dksX5_nextToken_3 7 rfl rfl)
theorem dX5_nextToken_79 : decode cX5_nextToken 79 = .ok (.getfield 51, 3) := dk_180 0 51 (dk_at dksX5_nextToken_3 8 rfl rfl)
theorem dX5_nextToken_82 : decode cX5_nextToken 82 = .ok (.if_icmp .ge 57, 3) := dk_162 0 57 (dk_at dksX5_nextToken_3 11 rfl rfl)
theorem dX5_nextToken_85 : decode cX5_nextToken 85 = .ok (.aload_n 0, 1) := dk_42 (dk_at dksX5_nextToken_3 14 rfl rfl)
theorem dX5_nextToken_86 : decode cX5_nextToken 86 = .ok (.getfield 20, 3) := dk_180 0 20 (dk_at dksX5_nextToken_3 15 rfl rfl)
theorem dX5_nextToken_89 : decode cX5_nextToken 89 = .ok (.aload_n 0, 1) := dk_42 (dk_at dksX5_nextToken_3 18 rfl rfl)
theorem dX5_nextToken_90 : decode cX5_nextToken 90 = .ok (.getfield 66, 3) := dk_180 0 66 (dk_at dksX5_nextToken_3 19 rfl rfl)
theorem dX5_nextToken_93 : decode cX5_nextToken 93 = .ok (.iaload, 1) := dk_46 (dk_at dksX5_nextToken_3 22 rfl rfl)
theorem dX5_nextToken_94 : decode cX5_nextToken 94 = .ok (.invokestatic 69, 3) := dk_184 0 69 (dk_at dksX5_nextToken_4 0 rfl rfl)
theorem dX5_nextToken_97 : decode cX5_nextToken 97 = .ok (.ifCond .eq 42, 3) := dk_153 0 42 (dk_at dksX5_nextToken_4 3 rfl rfl)
theorem dX5_nextToken_100 : decode cX5_nextToken 100 = .ok (.aload_n 0, 1) := dk_42 (dk_at dksX5_nextToken_4 6 rfl rfl)
theorem dX5_nextToken_101 : decode cX5_nextToken 101 = .ok (.getfield 63, 3) := dk_180 0 63 (dk_at dksX5_nextToken_4 7 rfl rfl)
theorem dX5_nextToken_104 : decode cX5_nextToken 104 = .ok (.aload_n 0, 1) := dk_42 (dk_at dksX5_nextToken_4 10 rfl rfl)
theorem dX5_nextToken_105 : decode cX5_nextToken 105 = .ok (.getfield 51, 3) := dk_180 0 51 (dk_at dksX5_nextToken_4 11 rfl rfl)
theorem dX5_nextToken_108 : decode cX5_nextToken 108 = .ok (.if_icmp .ge 96, 3) := dk_162 0 96 (dk_at dksX5_nextToken_4 14 rfl rfl)
theorem dX5_nextToken_111 : decode cX5_nextToken 111 = .ok (.aload_n 0, 1) := dk_42 (dk_at dksX5_nextToken_4 17 rfl rfl)
theorem dX5_nextToken_112 : decode cX5_nextToken 112 = .ok (.getfield 20, 3) := dk_180 0 20 (dk_at dksX5_nextToken_4 18 rfl rfl)
theorem dX5_nextToken_115 : decode cX5_nextToken 115 = .ok (.aload_n 0, 1) := dk_42 (dk_at dksX5_nextToken_4 21 rfl rfl)
theorem dX5_nextToken_116 : decode cX5_nextToken 116 = .ok (.getfield 63, 3) := dk_180 0 63 (dk_at dksX5_nextToken_5 0 rfl rfl)
theorem dX5_nextToken_119 : decode cX5_nextToken 119 = .ok (.iaload, 1) := dk_46 (dk_at dksX5_nextToken_5 3 rfl rfl)
theorem dX5_nextToken_120 : decode cX5_nextToken 120 = .ok (.invokestatic 69, 3) := dk_184 0 69 (dk_at dksX5_nextToken_5 4 rfl rfl)
theorem dX5_nextToken_123 : decode cX5_nextToken 123 = .ok (.ifCond .eq 81, 3) := dk_153 0 81 (dk_at dksX5_nextToken_5 7 rfl rfl)
theorem dX5_nextToken_126 : decode cX5_nextToken 126 = .ok (.aload_n 0, 1) := dk_42 (dk_at dksX5_nextToken_5 10 rfl rfl)
theorem dX5_nextToken_127 : decode cX5_nextToken 127 = .ok (.dup, 1) := dk_89 (dk_at dksX5_nextToken_5 11 rfl rfl)
theorem dX5_nextToken_128 : decode cX5_nextToken 128 = .ok (.getfield 63, 3) := dk_180 0 63 (dk_at dksX5_nextToken_5 12 rfl rfl)
theorem dX5_nextToken_131 : decode cX5_nextToken 131 = .ok (.iconst 1, 1) := dk_4 (dk_at dksX5_nextToken_5 15 rfl rfl)
theorem dX5_nextToken_132 : decode cX5_nextToken 132 = .ok (.iadd, 1) := dk_96 (dk_at dksX5_nextToken_5 16 rfl rfl)
theorem dX5_nextToken_133 : decode cX5_nextToken 133 = .ok (.putfield 63, 3) := dk_181 0 63 (dk_at dksX5_nextToken_5 17 rfl rfl)
theorem dX5_nextToken_136 : decode cX5_nextToken 136 = .ok (.goto (-36), 3) := dk_167 255 220 (dk_at dksX5_nextToken_5 20 rfl rfl)
theorem dX5_nextToken_139 : decode cX5_nextToken 139 = .ok (.aload_n 0, 1) := dk_42 (dk_at dksX5_nextToken_5 23 rfl rfl)
theorem dX5_nextToken_140 : decode cX5_nextToken 140 = .ok (.getfield 66, 3) := dk_180 0 66 (dk_at dksX5_nextToken_6 0 rfl rfl)
theorem dX5_nextToken_143 : decode cX5_nextToken 143 = .ok (.aload_n 0, 1) := dk_42 (dk_at dksX5_nextToken_6 3 rfl rfl)
theorem dX5_nextToken_144 : decode cX5_nextToken 144 = .ok (.getfield 51, 3) := dk_180 0 51 (dk_at dksX5_nextToken_6 4 rfl rfl)
theorem dX5_nextToken_147 : decode cX5_nextToken 147 = .ok (.if_icmp .ge 57, 3) := dk_162 0 57 (dk_at dksX5_nextToken_6 7 rfl rfl)
theorem dX5_nextToken_150 : decode cX5_nextToken 150 = .ok (.aload_n 0, 1) := dk_42 (dk_at dksX5_nextToken_6 10 rfl rfl)
theorem dX5_nextToken_151 : decode cX5_nextToken 151 = .ok (.getfield 20, 3) := dk_180 0 20 (dk_at dksX5_nextToken_6 11 rfl rfl)
theorem dX5_nextToken_154 : decode cX5_nextToken 154 = .ok (.aload_n 0, 1) := dk_42 (dk_at dksX5_nextToken_6 14 rfl rfl)
theorem dX5_nextToken_155 : decode cX5_nextToken 155 = .ok (.getfield 66, 3) := dk_180 0 66 (dk_at dksX5_nextToken_6 15 rfl rfl)
theorem dX5_nextToken_158 : decode cX5_nextToken 158 = .ok (.iaload, 1) := dk_46 (dk_at dksX5_nextToken_6 18 rfl rfl)
theorem dX5_nextToken_159 : decode cX5_nextToken 159 = .ok (.invokestatic 73, 3) := dk_184 0 73 (dk_at dksX5_nextToken_6 19 rfl rfl)
theorem dX5_nextToken_162 : decode cX5_nextToken 162 = .ok (.ifCond .eq 42, 3) := dk_153 0 42 (dk_at dksX5_nextToken_7 0 rfl rfl)
theorem dX5_nextToken_165 : decode cX5_nextToken 165 = .ok (.aload_n 0, 1) := dk_42 (dk_at dksX5_nextToken_7 3 rfl rfl)
theorem dX5_nextToken_166 : decode cX5_nextToken 166 = .ok (.getfield 63, 3) := dk_180 0 63 (dk_at dksX5_nextToken_7 4 rfl rfl)
theorem dX5_nextToken_169 : decode cX5_nextToken 169 = .ok (.aload_n 0, 1) := dk_42 (dk_at dksX5_nextToken_7 7 rfl rfl)
theorem dX5_nextToken_170 : decode cX5_nextToken 170 = .ok (.getfield 51, 3) := dk_180 0 51 (dk_at dksX5_nextToken_7 8 rfl rfl)
theorem dX5_nextToken_173 : decode cX5_nextToken 173 = .ok (.if_icmp .ge 31, 3) := dk_162 0 31 (dk_at dksX5_nextToken_7 11 rfl rfl)
theorem dX5_nextToken_176 : decode cX5_nextToken 176 = .ok (.aload_n 0, 1) := dk_42 (dk_at dksX5_nextToken_7 14 rfl rfl)
theorem dX5_nextToken_177 : decode cX5_nextToken 177 = .ok (.getfield 20, 3) := dk_180 0 20 (dk_at dksX5_nextToken_7 15 rfl rfl)
theorem dX5_nextToken_180 : decode cX5_nextToken 180 = .ok (.aload_n 0, 1) := dk_42 (dk_at dksX5_nextToken_7 18 rfl rfl)
theorem dX5_nextToken_181 : decode cX5_nextToken 181 = .ok (.getfield 63, 3) := dk_180 0 63 (dk_at dksX5_nextToken_7 19 rfl rfl)
theorem dX5_nextToken_184 : decode cX5_nextToken 184 = .ok (.iaload, 1) := dk_46 (dk_at dksX5_nextToken_7 22 rfl rfl)
theorem dX5_nextToken_185 : decode cX5_nextToken 185 = .ok (.invokestatic 73, 3) := dk_184 0 73 (dk_at dksX5_nextToken_8 0 rfl rfl)
theorem dX5_nextToken_188 : decode cX5_nextToken 188 = .ok (.ifCond .eq 16, 3) := dk_153 0 16 (dk_at dksX5_nextToken_8 3 rfl rfl)
theorem dX5_nextToken_191 : decode cX5_nextToken 191 = .ok (.aload_n 0, 1) := dk_42 (dk_at dksX5_nextToken_8 6 rfl rfl)
theorem dX5_nextToken_192 : decode cX5_nextToken 192 = .ok (.dup, 1) := dk_89 (dk_at dksX5_nextToken_8 7 rfl rfl)
theorem dX5_nextToken_193 : decode cX5_nextToken 193 = .ok (.getfield 63, 3) := dk_180 0 63 (dk_at dksX5_nextToken_8 8 rfl rfl)
theorem dX5_nextToken_196 : decode cX5_nextToken 196 = .ok (.iconst 1, 1) := dk_4 (dk_at dksX5_nextToken_8 11 rfl rfl)
theorem dX5_nextToken_197 : decode cX5_nextToken 197 = .ok (.iadd, 1) := dk_96 (dk_at dksX5_nextToken_8 12 rfl rfl)
theorem dX5_nextToken_198 : decode cX5_nextToken 198 = .ok (.putfield 63, 3) := dk_181 0 63 (dk_at dksX5_nextToken_8 13 rfl rfl)
theorem dX5_nextToken_201 : decode cX5_nextToken 201 = .ok (.goto (-36), 3) := dk_167 255 220 (dk_at dksX5_nextToken_8 16 rfl rfl)
theorem dX5_nextToken_204 : decode cX5_nextToken 204 = .ok (.return_, 1) := dk_177 (dk_at dksX5_nextToken_8 19 rfl rfl)
abbrev cX5_isSmall : ByteArray := prog_15_method_9_code
def yX5_isSmall : MethodName := ⟨RX5, "isSmall", "(I)Z"⟩
def dkwX5_isSmall_0 : List UInt8 := [26, 133, 20, 0, 55, 20, 0, 57, 184, 0, 47, 172]
abbrev dktX5_isSmall_0 : List UInt8 := dkwX5_isSmall_0 ++ []
theorem dksX5_isSmall_0 : cX5_isSmall.data.toList.drop 0 = dktX5_isSmall_0 := by decide +kernel
theorem dX5_isSmall_0 : decode cX5_isSmall 0 = .ok (.iload_n 0, 1) := dk_26 (dk_at dksX5_isSmall_0 0 rfl rfl)
theorem dX5_isSmall_1 : decode cX5_isSmall 1 = .ok (.i2l, 1) := dk_133 (dk_at dksX5_isSmall_0 1 rfl rfl)
theorem dX5_isSmall_2 : decode cX5_isSmall 2 = .ok (.ldc2_w 55, 3) := dk_20 0 55 (dk_at dksX5_isSmall_0 2 rfl rfl)
theorem dX5_isSmall_5 : decode cX5_isSmall 5 = .ok (.ldc2_w 57, 3) := dk_20 0 57 (dk_at dksX5_isSmall_0 5 rfl rfl)
theorem dX5_isSmall_8 : decode cX5_isSmall 8 = .ok (.invokestatic 47, 3) := dk_184 0 47 (dk_at dksX5_isSmall_0 8 rfl rfl)
theorem dX5_isSmall_11 : decode cX5_isSmall 11 = .ok (.ireturn, 1) := dk_172 (dk_at dksX5_isSmall_0 11 rfl rfl)
abbrev cX5_isDigit : ByteArray := prog_15_method_10_code
def yX5_isDigit : MethodName := ⟨RX5, "isDigit", "(I)Z"⟩
def dkwX5_isDigit_0 : List UInt8 := [26, 133, 20, 0, 59, 20, 0, 61, 184, 0, 47, 172]
abbrev dktX5_isDigit_0 : List UInt8 := dkwX5_isDigit_0 ++ []
theorem dksX5_isDigit_0 : cX5_isDigit.data.toList.drop 0 = dktX5_isDigit_0 := by decide +kernel
theorem dX5_isDigit_0 : decode cX5_isDigit 0 = .ok (.iload_n 0, 1) := dk_26 (dk_at dksX5_isDigit_0 0 rfl rfl)
theorem dX5_isDigit_1 : decode cX5_isDigit 1 = .ok (.i2l, 1) := dk_133 (dk_at dksX5_isDigit_0 1 rfl rfl)
theorem dX5_isDigit_2 : decode cX5_isDigit 2 = .ok (.ldc2_w 59, 3) := dk_20 0 59 (dk_at dksX5_isDigit_0 2 rfl rfl)
theorem dX5_isDigit_5 : decode cX5_isDigit 5 = .ok (.ldc2_w 61, 3) := dk_20 0 61 (dk_at dksX5_isDigit_0 5 rfl rfl)
theorem dX5_isDigit_8 : decode cX5_isDigit 8 = .ok (.invokestatic 47, 3) := dk_184 0 47 (dk_at dksX5_isDigit_0 8 rfl rfl)
theorem dX5_isDigit_11 : decode cX5_isDigit 11 = .ok (.ireturn, 1) := dk_172 (dk_at dksX5_isDigit_0 11 rfl rfl)
abbrev cX5_readsClause : ByteArray := prog_15_method_18_code
def yX5_readsClause : MethodName := ⟨RX5, "readsClause", "()Z"⟩
def dkwX5_readsClause_2 : List UInt8 := [42, 180, 0, 104, 153, 0, 8, 42, 27, 182, 0, 108, 4, 172]
abbrev dktX5_readsClause_2 : List UInt8 := dkwX5_readsClause_2 ++ []
def dkwX5_readsClause_1 : List UInt8 := [160, 0, 5, 3, 172, 42, 182, 0, 76, 42, 27, 182, 0, 97, 154, 0, 5, 3, 172, 42, 27, 182, 0, 100]
abbrev dktX5_readsClause_1 : List UInt8 := dkwX5_readsClause_1 ++ dktX5_readsClause_2
def dkwX5_readsClause_0 : List UInt8 := [42, 182, 0, 93, 60, 27, 2, 159, 0, 20, 27, 16, 7, 160, 0, 16, 42, 180, 0, 29, 7, 46, 16, 12]
abbrev dktX5_readsClause_0 : List UInt8 := dkwX5_readsClause_0 ++ dktX5_readsClause_1
theorem dksX5_readsClause_0 : cX5_readsClause.data.toList.drop 0 = dktX5_readsClause_0 := by decide +kernel
theorem dksX5_readsClause_1 : cX5_readsClause.data.toList.drop 24 = dktX5_readsClause_1 := dk_seg dksX5_readsClause_0 24 rfl rfl
theorem dksX5_readsClause_2 : cX5_readsClause.data.toList.drop 48 = dktX5_readsClause_2 := dk_seg dksX5_readsClause_1 24 rfl rfl
theorem dX5_readsClause_0 : decode cX5_readsClause 0 = .ok (.aload_n 0, 1) := dk_42 (dk_at dksX5_readsClause_0 0 rfl rfl)
theorem dX5_readsClause_1 : decode cX5_readsClause 1 = .ok (.invokevirtual 93, 3) := dk_182 0 93 (dk_at dksX5_readsClause_0 1 rfl rfl)
theorem dX5_readsClause_4 : decode cX5_readsClause 4 = .ok (.istore_n 1, 1) := dk_60 (dk_at dksX5_readsClause_0 4 rfl rfl)
theorem dX5_readsClause_5 : decode cX5_readsClause 5 = .ok (.iload_n 1, 1) := dk_27 (dk_at dksX5_readsClause_0 5 rfl rfl)
theorem dX5_readsClause_6 : decode cX5_readsClause 6 = .ok (.iconst (-1), 1) := dk_2 (dk_at dksX5_readsClause_0 6 rfl rfl)
theorem dX5_readsClause_7 : decode cX5_readsClause 7 = .ok (.if_icmp .eq 20, 3) := dk_159 0 20 (dk_at dksX5_readsClause_0 7 rfl rfl)
theorem dX5_readsClause_10 : decode cX5_readsClause 10 = .ok (.iload_n 1, 1) := dk_27 (dk_at dksX5_readsClause_0 10 rfl rfl)
theorem dX5_readsClause_11 : decode cX5_readsClause 11 = .ok (.bipush 7, 2) := dk_16 7 (dk_at dksX5_readsClause_0 11 rfl rfl)
theorem dX5_readsClause_13 : decode cX5_readsClause 13 = .ok (.if_icmp .ne 16, 3) := dk_160 0 16 (dk_at dksX5_readsClause_0 13 rfl rfl)
theorem dX5_readsClause_16 : decode cX5_readsClause 16 = .ok (.aload_n 0, 1) := dk_42 (dk_at dksX5_readsClause_0 16 rfl rfl)
theorem dX5_readsClause_17 : decode cX5_readsClause 17 = .ok (.getfield 29, 3) := dk_180 0 29 (dk_at dksX5_readsClause_0 17 rfl rfl)
theorem dX5_readsClause_20 : decode cX5_readsClause 20 = .ok (.iconst 4, 1) := dk_7 (dk_at dksX5_readsClause_0 20 rfl rfl)
theorem dX5_readsClause_21 : decode cX5_readsClause 21 = .ok (.iaload, 1) := dk_46 (dk_at dksX5_readsClause_0 21 rfl rfl)
theorem dX5_readsClause_22 : decode cX5_readsClause 22 = .ok (.bipush 12, 2) := dk_16 12 (dk_at dksX5_readsClause_0 22 rfl rfl)
theorem dX5_readsClause_24 : decode cX5_readsClause 24 = .ok (.if_icmp .ne 5, 3) := dk_160 0 5 (dk_at dksX5_readsClause_1 0 rfl rfl)
theorem dX5_readsClause_27 : decode cX5_readsClause 27 = .ok (.iconst 0, 1) := dk_3 (dk_at dksX5_readsClause_1 3 rfl rfl)
theorem dX5_readsClause_28 : decode cX5_readsClause 28 = .ok (.ireturn, 1) := dk_172 (dk_at dksX5_readsClause_1 4 rfl rfl)
theorem dX5_readsClause_29 : decode cX5_readsClause 29 = .ok (.aload_n 0, 1) := dk_42 (dk_at dksX5_readsClause_1 5 rfl rfl)
theorem dX5_readsClause_30 : decode cX5_readsClause 30 = .ok (.invokevirtual 76, 3) := dk_182 0 76 (dk_at dksX5_readsClause_1 6 rfl rfl)
theorem dX5_readsClause_33 : decode cX5_readsClause 33 = .ok (.aload_n 0, 1) := dk_42 (dk_at dksX5_readsClause_1 9 rfl rfl)
theorem dX5_readsClause_34 : decode cX5_readsClause 34 = .ok (.iload_n 1, 1) := dk_27 (dk_at dksX5_readsClause_1 10 rfl rfl)
theorem dX5_readsClause_35 : decode cX5_readsClause 35 = .ok (.invokevirtual 97, 3) := dk_182 0 97 (dk_at dksX5_readsClause_1 11 rfl rfl)
theorem dX5_readsClause_38 : decode cX5_readsClause 38 = .ok (.ifCond .ne 5, 3) := dk_154 0 5 (dk_at dksX5_readsClause_1 14 rfl rfl)
theorem dX5_readsClause_41 : decode cX5_readsClause 41 = .ok (.iconst 0, 1) := dk_3 (dk_at dksX5_readsClause_1 17 rfl rfl)
theorem dX5_readsClause_42 : decode cX5_readsClause 42 = .ok (.ireturn, 1) := dk_172 (dk_at dksX5_readsClause_1 18 rfl rfl)
theorem dX5_readsClause_43 : decode cX5_readsClause 43 = .ok (.aload_n 0, 1) := dk_42 (dk_at dksX5_readsClause_1 19 rfl rfl)
theorem dX5_readsClause_44 : decode cX5_readsClause 44 = .ok (.iload_n 1, 1) := dk_27 (dk_at dksX5_readsClause_1 20 rfl rfl)
theorem dX5_readsClause_45 : decode cX5_readsClause 45 = .ok (.invokevirtual 100, 3) := dk_182 0 100 (dk_at dksX5_readsClause_1 21 rfl rfl)
theorem dX5_readsClause_48 : decode cX5_readsClause 48 = .ok (.aload_n 0, 1) := dk_42 (dk_at dksX5_readsClause_2 0 rfl rfl)
theorem dX5_readsClause_49 : decode cX5_readsClause 49 = .ok (.getfield 104, 3) := dk_180 0 104 (dk_at dksX5_readsClause_2 1 rfl rfl)
theorem dX5_readsClause_52 : decode cX5_readsClause 52 = .ok (.ifCond .eq 8, 3) := dk_153 0 8 (dk_at dksX5_readsClause_2 4 rfl rfl)
theorem dX5_readsClause_55 : decode cX5_readsClause 55 = .ok (.aload_n 0, 1) := dk_42 (dk_at dksX5_readsClause_2 7 rfl rfl)
theorem dX5_readsClause_56 : decode cX5_readsClause 56 = .ok (.iload_n 1, 1) := dk_27 (dk_at dksX5_readsClause_2 8 rfl rfl)
theorem dX5_readsClause_57 : decode cX5_readsClause 57 = .ok (.invokevirtual 108, 3) := dk_182 0 108 (dk_at dksX5_readsClause_2 9 rfl rfl)
theorem dX5_readsClause_60 : decode cX5_readsClause 60 = .ok (.iconst 1, 1) := dk_4 (dk_at dksX5_readsClause_2 12 rfl rfl)
theorem dX5_readsClause_61 : decode cX5_readsClause 61 = .ok (.ireturn, 1) := dk_172 (dk_at dksX5_readsClause_2 13 rfl rfl)
abbrev cX5_wordHere : ByteArray := prog_15_method_12_code
def yX5_wordHere : MethodName := ⟨RX5, "wordHere", "()I"⟩
def dkwX5_wordHere_5 : List UInt8 := [172]
abbrev dktX5_wordHere_5 : List UInt8 := dkwX5_wordHere_5 ++ []
def dkwX5_wordHere_4 : List UInt8 := [167, 0, 4, 3, 61, 132, 3, 1, 167, 255, 197, 28, 153, 0, 5, 27, 172, 132, 1, 1, 167, 255, 146, 2]
abbrev dktX5_wordHere_4 : List UInt8 := dkwX5_wordHere_4 ++ dktX5_wordHere_5
def dkwX5_wordHere_3 : List UInt8 := [162, 0, 17, 42, 180, 0, 20, 42, 180, 0, 66, 29, 96, 46, 167, 0, 4, 3, 160, 0, 7, 4]
abbrev dktX5_wordHere_3 : List UInt8 := dkwX5_wordHere_3 ++ dktX5_wordHere_4
def dkwX5_wordHere_2 : List UInt8 := [153, 0, 56, 42, 180, 0, 35, 8, 27, 104, 29, 96, 46, 42, 180, 0, 66, 29, 96, 42, 180, 0, 63]
abbrev dktX5_wordHere_2 : List UInt8 := dkwX5_wordHere_2 ++ dktX5_wordHere_3
def dkwX5_wordHere_1 : List UInt8 := [180, 0, 66, 100, 16, 6, 162, 0, 7, 4, 167, 0, 4, 3, 61, 3, 62, 29, 8, 162, 0, 60, 28]
abbrev dktX5_wordHere_1 : List UInt8 := dkwX5_wordHere_1 ++ dktX5_wordHere_2
def dkwX5_wordHere_0 : List UInt8 := [3, 60, 27, 16, 7, 163, 0, 110, 42, 180, 0, 63, 42, 180, 0, 66, 164, 0, 21, 42, 180, 0, 63, 42]
abbrev dktX5_wordHere_0 : List UInt8 := dkwX5_wordHere_0 ++ dktX5_wordHere_1
theorem dksX5_wordHere_0 : cX5_wordHere.data.toList.drop 0 = dktX5_wordHere_0 := by decide +kernel
theorem dksX5_wordHere_1 : cX5_wordHere.data.toList.drop 24 = dktX5_wordHere_1 := dk_seg dksX5_wordHere_0 24 rfl rfl
theorem dksX5_wordHere_2 : cX5_wordHere.data.toList.drop 47 = dktX5_wordHere_2 := dk_seg dksX5_wordHere_1 23 rfl rfl
theorem dksX5_wordHere_3 : cX5_wordHere.data.toList.drop 70 = dktX5_wordHere_3 := dk_seg dksX5_wordHere_2 23 rfl rfl
theorem dksX5_wordHere_4 : cX5_wordHere.data.toList.drop 92 = dktX5_wordHere_4 := dk_seg dksX5_wordHere_3 22 rfl rfl
theorem dksX5_wordHere_5 : cX5_wordHere.data.toList.drop 116 = dktX5_wordHere_5 := dk_seg dksX5_wordHere_4 24 rfl rfl
theorem dX5_wordHere_0 : decode cX5_wordHere 0 = .ok (.iconst 0, 1) := dk_3 (dk_at dksX5_wordHere_0 0 rfl rfl)
theorem dX5_wordHere_1 : decode cX5_wordHere 1 = .ok (.istore_n 1, 1) := dk_60 (dk_at dksX5_wordHere_0 1 rfl rfl)
theorem dX5_wordHere_2 : decode cX5_wordHere 2 = .ok (.iload_n 1, 1) := dk_27 (dk_at dksX5_wordHere_0 2 rfl rfl)
theorem dX5_wordHere_3 : decode cX5_wordHere 3 = .ok (.bipush 7, 2) := dk_16 7 (dk_at dksX5_wordHere_0 3 rfl rfl)
theorem dX5_wordHere_5 : decode cX5_wordHere 5 = .ok (.if_icmp .gt 110, 3) := dk_163 0 110 (dk_at dksX5_wordHere_0 5 rfl rfl)
theorem dX5_wordHere_8 : decode cX5_wordHere 8 = .ok (.aload_n 0, 1) := dk_42 (dk_at dksX5_wordHere_0 8 rfl rfl)
theorem dX5_wordHere_9 : decode cX5_wordHere 9 = .ok (.getfield 63, 3) := dk_180 0 63 (dk_at dksX5_wordHere_0 9 rfl rfl)
theorem dX5_wordHere_12 : decode cX5_wordHere 12 = .ok (.aload_n 0, 1) := dk_42 (dk_at dksX5_wordHere_0 12 rfl rfl)
theorem dX5_wordHere_13 : decode cX5_wordHere 13 = .ok (.getfield 66, 3) := dk_180 0 66 (dk_at dksX5_wordHere_0 13 rfl rfl)
theorem dX5_wordHere_16 : decode cX5_wordHere 16 = .ok (.if_icmp .le 21, 3) := dk_164 0 21 (dk_at dksX5_wordHere_0 16 rfl rfl)
theorem dX5_wordHere_19 : decode cX5_wordHere 19 = .ok (.aload_n 0, 1) := dk_42 (dk_at dksX5_wordHere_0 19 rfl rfl)
theorem dX5_wordHere_20 : decode cX5_wordHere 20 = .ok (.getfield 63, 3) := dk_180 0 63 (dk_at dksX5_wordHere_0 20 rfl rfl)
theorem dX5_wordHere_23 : decode cX5_wordHere 23 = .ok (.aload_n 0, 1) := dk_42 (dk_at dksX5_wordHere_0 23 rfl rfl)
theorem dX5_wordHere_24 : decode cX5_wordHere 24 = .ok (.getfield 66, 3) := dk_180 0 66 (dk_at dksX5_wordHere_1 0 rfl rfl)
theorem dX5_wordHere_27 : decode cX5_wordHere 27 = .ok (.isub, 1) := dk_100 (dk_at dksX5_wordHere_1 3 rfl rfl)
theorem dX5_wordHere_28 : decode cX5_wordHere 28 = .ok (.bipush 6, 2) := dk_16 6 (dk_at dksX5_wordHere_1 4 rfl rfl)
theorem dX5_wordHere_30 : decode cX5_wordHere 30 = .ok (.if_icmp .ge 7, 3) := dk_162 0 7 (dk_at dksX5_wordHere_1 6 rfl rfl)
theorem dX5_wordHere_33 : decode cX5_wordHere 33 = .ok (.iconst 1, 1) := dk_4 (dk_at dksX5_wordHere_1 9 rfl rfl)
theorem dX5_wordHere_34 : decode cX5_wordHere 34 = .ok (.goto 4, 3) := dk_167 0 4 (dk_at dksX5_wordHere_1 10 rfl rfl)
theorem dX5_wordHere_37 : decode cX5_wordHere 37 = .ok (.iconst 0, 1) := dk_3 (dk_at dksX5_wordHere_1 13 rfl rfl)
theorem dX5_wordHere_38 : decode cX5_wordHere 38 = .ok (.istore_n 2, 1) := dk_61 (dk_at dksX5_wordHere_1 14 rfl rfl)
theorem dX5_wordHere_39 : decode cX5_wordHere 39 = .ok (.iconst 0, 1) := dk_3 (dk_at dksX5_wordHere_1 15 rfl rfl)
theorem dX5_wordHere_40 : decode cX5_wordHere 40 = .ok (.istore_n 3, 1) := dk_62 (dk_at dksX5_wordHere_1 16 rfl rfl)
theorem dX5_wordHere_41 : decode cX5_wordHere 41 = .ok (.iload_n 3, 1) := dk_29 (dk_at dksX5_wordHere_1 17 rfl rfl)
theorem dX5_wordHere_42 : decode cX5_wordHere 42 = .ok (.iconst 5, 1) := dk_8 (dk_at dksX5_wordHere_1 18 rfl rfl)
theorem dX5_wordHere_43 : decode cX5_wordHere 43 = .ok (.if_icmp .ge 60, 3) := dk_162 0 60 (dk_at dksX5_wordHere_1 19 rfl rfl)
theorem dX5_wordHere_46 : decode cX5_wordHere 46 = .ok (.iload_n 2, 1) := dk_28 (dk_at dksX5_wordHere_1 22 rfl rfl)
theorem dX5_wordHere_47 : decode cX5_wordHere 47 = .ok (.ifCond .eq 56, 3) := dk_153 0 56 (dk_at dksX5_wordHere_2 0 rfl rfl)
theorem dX5_wordHere_50 : decode cX5_wordHere 50 = .ok (.aload_n 0, 1) := dk_42 (dk_at dksX5_wordHere_2 3 rfl rfl)
theorem dX5_wordHere_51 : decode cX5_wordHere 51 = .ok (.getfield 35, 3) := dk_180 0 35 (dk_at dksX5_wordHere_2 4 rfl rfl)
theorem dX5_wordHere_54 : decode cX5_wordHere 54 = .ok (.iconst 5, 1) := dk_8 (dk_at dksX5_wordHere_2 7 rfl rfl)
theorem dX5_wordHere_55 : decode cX5_wordHere 55 = .ok (.iload_n 1, 1) := dk_27 (dk_at dksX5_wordHere_2 8 rfl rfl)
theorem dX5_wordHere_56 : decode cX5_wordHere 56 = .ok (.imul, 1) := dk_104 (dk_at dksX5_wordHere_2 9 rfl rfl)
theorem dX5_wordHere_57 : decode cX5_wordHere 57 = .ok (.iload_n 3, 1) := dk_29 (dk_at dksX5_wordHere_2 10 rfl rfl)
theorem dX5_wordHere_58 : decode cX5_wordHere 58 = .ok (.iadd, 1) := dk_96 (dk_at dksX5_wordHere_2 11 rfl rfl)
theorem dX5_wordHere_59 : decode cX5_wordHere 59 = .ok (.iaload, 1) := dk_46 (dk_at dksX5_wordHere_2 12 rfl rfl)
theorem dX5_wordHere_60 : decode cX5_wordHere 60 = .ok (.aload_n 0, 1) := dk_42 (dk_at dksX5_wordHere_2 13 rfl rfl)
theorem dX5_wordHere_61 : decode cX5_wordHere 61 = .ok (.getfield 66, 3) := dk_180 0 66 (dk_at dksX5_wordHere_2 14 rfl rfl)
theorem dX5_wordHere_64 : decode cX5_wordHere 64 = .ok (.iload_n 3, 1) := dk_29 (dk_at dksX5_wordHere_2 17 rfl rfl)
theorem dX5_wordHere_65 : decode cX5_wordHere 65 = .ok (.iadd, 1) := dk_96 (dk_at dksX5_wordHere_2 18 rfl rfl)
theorem dX5_wordHere_66 : decode cX5_wordHere 66 = .ok (.aload_n 0, 1) := dk_42 (dk_at dksX5_wordHere_2 19 rfl rfl)
theorem dX5_wordHere_67 : decode cX5_wordHere 67 = .ok (.getfield 63, 3) := dk_180 0 63 (dk_at dksX5_wordHere_2 20 rfl rfl)
theorem dX5_wordHere_70 : decode cX5_wordHere 70 = .ok (.if_icmp .ge 17, 3) := dk_162 0 17 (dk_at dksX5_wordHere_3 0 rfl rfl)
theorem dX5_wordHere_73 : decode cX5_wordHere 73 = .ok (.aload_n 0, 1) := dk_42 (dk_at dksX5_wordHere_3 3 rfl rfl)
theorem dX5_wordHere_74 : decode cX5_wordHere 74 = .ok (.getfield 20, 3) := dk_180 0 20 (dk_at dksX5_wordHere_3 4 rfl rfl)
theorem dX5_wordHere_77 : decode cX5_wordHere 77 = .ok (.aload_n 0, 1) := dk_42 (dk_at dksX5_wordHere_3 7 rfl rfl)
theorem dX5_wordHere_78 : decode cX5_wordHere 78 = .ok (.getfield 66, 3) := dk_180 0 66 (dk_at dksX5_wordHere_3 8 rfl rfl)
theorem dX5_wordHere_81 : decode cX5_wordHere 81 = .ok (.iload_n 3, 1) := dk_29 (dk_at dksX5_wordHere_3 11 rfl rfl)
theorem dX5_wordHere_82 : decode cX5_wordHere 82 = .ok (.iadd, 1) := dk_96 (dk_at dksX5_wordHere_3 12 rfl rfl)
theorem dX5_wordHere_83 : decode cX5_wordHere 83 = .ok (.iaload, 1) := dk_46 (dk_at dksX5_wordHere_3 13 rfl rfl)
theorem dX5_wordHere_84 : decode cX5_wordHere 84 = .ok (.goto 4, 3) := dk_167 0 4 (dk_at dksX5_wordHere_3 14 rfl rfl)
theorem dX5_wordHere_87 : decode cX5_wordHere 87 = .ok (.iconst 0, 1) := dk_3 (dk_at dksX5_wordHere_3 17 rfl rfl)
theorem dX5_wordHere_88 : decode cX5_wordHere 88 = .ok (.if_icmp .ne 7, 3) := dk_160 0 7 (dk_at dksX5_wordHere_3 18 rfl rfl)
theorem dX5_wordHere_91 : decode cX5_wordHere 91 = .ok (.iconst 1, 1) := dk_4 (dk_at dksX5_wordHere_3 21 rfl rfl)
theorem dX5_wordHere_92 : decode cX5_wordHere 92 = .ok (.goto 4, 3) := dk_167 0 4 (dk_at dksX5_wordHere_4 0 rfl rfl)
theorem dX5_wordHere_95 : decode cX5_wordHere 95 = .ok (.iconst 0, 1) := dk_3 (dk_at dksX5_wordHere_4 3 rfl rfl)
theorem dX5_wordHere_96 : decode cX5_wordHere 96 = .ok (.istore_n 2, 1) := dk_61 (dk_at dksX5_wordHere_4 4 rfl rfl)
theorem dX5_wordHere_97 : decode cX5_wordHere 97 = .ok (.iinc 3 1, 3) := dk_132 3 1 (dk_at dksX5_wordHere_4 5 rfl rfl)
theorem dX5_wordHere_100 : decode cX5_wordHere 100 = .ok (.goto (-59), 3) := dk_167 255 197 (dk_at dksX5_wordHere_4 8 rfl rfl)
theorem dX5_wordHere_103 : decode cX5_wordHere 103 = .ok (.iload_n 2, 1) := dk_28 (dk_at dksX5_wordHere_4 11 rfl rfl)
theorem dX5_wordHere_104 : decode cX5_wordHere 104 = .ok (.ifCond .eq 5, 3) := dk_153 0 5 (dk_at dksX5_wordHere_4 12 rfl rfl)
theorem dX5_wordHere_107 : decode cX5_wordHere 107 = .ok (.iload_n 1, 1) := dk_27 (dk_at dksX5_wordHere_4 15 rfl rfl)
theorem dX5_wordHere_108 : decode cX5_wordHere 108 = .ok (.ireturn, 1) := dk_172 (dk_at dksX5_wordHere_4 16 rfl rfl)
theorem dX5_wordHere_109 : decode cX5_wordHere 109 = .ok (.iinc 1 1, 3) := dk_132 1 1 (dk_at dksX5_wordHere_4 17 rfl rfl)
theorem dX5_wordHere_112 : decode cX5_wordHere 112 = .ok (.goto (-110), 3) := dk_167 255 146 (dk_at dksX5_wordHere_4 20 rfl rfl)
theorem dX5_wordHere_115 : decode cX5_wordHere 115 = .ok (.iconst (-1), 1) := dk_2 (dk_at dksX5_wordHere_4 23 rfl rfl)
theorem dX5_wordHere_116 : decode cX5_wordHere 116 = .ok (.ireturn, 1) := dk_172 (dk_at dksX5_wordHere_5 0 rfl rfl)
abbrev cX5_readsRest : ByteArray := prog_15_method_15_code
def yX5_readsRest : MethodName := ⟨RX5, "readsRest", "(I)Z"⟩
def dkwX5_readsRest_12 : List UInt8 := [172, 4, 172, 42, 182, 0, 83, 172]
abbrev dktX5_readsRest_12 : List UInt8 := dkwX5_readsRest_12 ++ []
def dkwX5_readsRest_11 : List UInt8 := [4, 100, 182, 0, 79, 153, 0, 18, 42, 4, 3, 16, 9, 182, 0, 79, 153, 0, 7, 4, 167, 0, 4, 3]
abbrev dktX5_readsRest_11 : List UInt8 := dkwX5_readsRest_11 ++ dktX5_readsRest_12
def dkwX5_readsRest_10 : List UInt8 := [3, 16, 9, 182, 0, 79, 153, 0, 7, 4, 167, 0, 4, 3, 172, 42, 3, 3, 42, 180, 0, 29, 4, 46]
abbrev dktX5_readsRest_10 : List UInt8 := dkwX5_readsRest_10 ++ dktX5_readsRest_11
def dkwX5_readsRest_9 : List UInt8 := [167, 0, 4, 3, 172, 42, 3, 3, 42, 180, 0, 29, 3, 46, 4, 100, 182, 0, 79, 153, 0, 18, 42, 4]
abbrev dktX5_readsRest_9 : List UInt8 := dkwX5_readsRest_9 ++ dktX5_readsRest_10
def dkwX5_readsRest_8 : List UInt8 := [182, 0, 79, 153, 0, 24, 42, 4, 3, 42, 180, 0, 29, 6, 46, 4, 100, 182, 0, 79, 153, 0, 7, 4]
abbrev dktX5_readsRest_8 : List UInt8 := dkwX5_readsRest_8 ++ dktX5_readsRest_9
def dkwX5_readsRest_7 : List UInt8 := [182, 0, 79, 153, 0, 7, 4, 167, 0, 4, 3, 172, 42, 3, 3, 42, 180, 0, 29, 4, 46, 4, 100]
abbrev dktX5_readsRest_7 : List UInt8 := dkwX5_readsRest_7 ++ dktX5_readsRest_8
def dkwX5_readsRest_6 : List UInt8 := [180, 0, 29, 6, 46, 4, 100, 182, 0, 79, 153, 0, 24, 42, 4, 3, 42, 180, 0, 29, 5, 46, 4, 100]
abbrev dktX5_readsRest_6 : List UInt8 := dkwX5_readsRest_6 ++ dktX5_readsRest_7
def dkwX5_readsRest_5 : List UInt8 := [180, 0, 29, 5, 46, 4, 100, 182, 0, 79, 153, 0, 7, 4, 167, 0, 4, 3, 172, 42, 3, 3, 42]
abbrev dktX5_readsRest_5 : List UInt8 := dkwX5_readsRest_5 ++ dktX5_readsRest_6
def dkwX5_readsRest_4 : List UInt8 := [3, 172, 42, 3, 3, 42, 180, 0, 29, 3, 46, 4, 100, 182, 0, 79, 153, 0, 24, 42, 4, 3, 42]
abbrev dktX5_readsRest_4 : List UInt8 := dkwX5_readsRest_4 ++ dktX5_readsRest_5
def dkwX5_readsRest_3 : List UInt8 := [4, 16, 6, 182, 0, 79, 153, 0, 18, 42, 6, 4, 16, 6, 182, 0, 79, 153, 0, 7, 4, 167, 0, 4]
abbrev dktX5_readsRest_3 : List UInt8 := dkwX5_readsRest_3 ++ dktX5_readsRest_4
def dkwX5_readsRest_2 : List UInt8 := [42, 3, 4, 16, 12, 182, 0, 79, 153, 0, 40, 42, 4, 4, 16, 12, 182, 0, 79, 153, 0, 29, 42, 5]
abbrev dktX5_readsRest_2 : List UInt8 := dkwX5_readsRest_2 ++ dktX5_readsRest_3
def dkwX5_readsRest_1 : List UInt8 := [170, 0, 0, 0, 0, 1, 27, 0, 0, 0, 0, 0, 0, 0, 6, 0, 0, 0, 43, 0, 0, 0, 93, 0, 0, 0, 133, 0, 0, 0, 173, 0, 0, 0, 213, 0, 0, 0, 247, 0, 0, 1, 25]
abbrev dktX5_readsRest_1 : List UInt8 := dkwX5_readsRest_1 ++ dktX5_readsRest_2
def dkwX5_readsRest_0 : List UInt8 := [27]
abbrev dktX5_readsRest_0 : List UInt8 := dkwX5_readsRest_0 ++ dktX5_readsRest_1
theorem dksX5_readsRest_0 : cX5_readsRest.data.toList.drop 0 = dktX5_readsRest_0 := by decide +kernel
theorem dksX5_readsRest_1 : cX5_readsRest.data.toList.drop 1 = dktX5_readsRest_1 := dk_seg dksX5_readsRest_0 1 rfl rfl
theorem dksX5_readsRest_2 : cX5_readsRest.data.toList.drop 44 = dktX5_readsRest_2 := dk_seg dksX5_readsRest_1 43 rfl rfl
theorem dksX5_readsRest_3 : cX5_readsRest.data.toList.drop 68 = dktX5_readsRest_3 := dk_seg dksX5_readsRest_2 24 rfl rfl
theorem dksX5_readsRest_4 : cX5_readsRest.data.toList.drop 92 = dktX5_readsRest_4 := dk_seg dksX5_readsRest_3 24 rfl rfl
theorem dksX5_readsRest_5 : cX5_readsRest.data.toList.drop 115 = dktX5_readsRest_5 := dk_seg dksX5_readsRest_4 23 rfl rfl
theorem dksX5_readsRest_6 : cX5_readsRest.data.toList.drop 138 = dktX5_readsRest_6 := dk_seg dksX5_readsRest_5 23 rfl rfl
theorem dksX5_readsRest_7 : cX5_readsRest.data.toList.drop 162 = dktX5_readsRest_7 := dk_seg dksX5_readsRest_6 24 rfl rfl
theorem dksX5_readsRest_8 : cX5_readsRest.data.toList.drop 185 = dktX5_readsRest_8 := dk_seg dksX5_readsRest_7 23 rfl rfl
theorem dksX5_readsRest_9 : cX5_readsRest.data.toList.drop 209 = dktX5_readsRest_9 := dk_seg dksX5_readsRest_8 24 rfl rfl
theorem dksX5_readsRest_10 : cX5_readsRest.data.toList.drop 233 = dktX5_readsRest_10 := dk_seg dksX5_readsRest_9 24 rfl rfl
theorem dksX5_readsRest_11 : cX5_readsRest.data.toList.drop 257 = dktX5_readsRest_11 := dk_seg dksX5_readsRest_10 24 rfl rfl
theorem dksX5_readsRest_12 : cX5_readsRest.data.toList.drop 281 = dktX5_readsRest_12 := dk_seg dksX5_readsRest_11 24 rfl rfl
theorem dX5_readsRest_0 : decode cX5_readsRest 0 = .ok (.iload_n 1, 1) := dk_27 (dk_at dksX5_readsRest_0 0 rfl rfl)
theorem dX5_readsRest_1 : decode cX5_readsRest 1 = .ok (.tableswitch 283 0 6 #[43, 93, 133, 173, 213, 247, 281], 43) := by decide +kernel
theorem dX5_readsRest_44 : decode cX5_readsRest 44 = .ok (.aload_n 0, 1) := dk_42 (dk_at dksX5_readsRest_2 0 rfl rfl)
theorem dX5_readsRest_45 : decode cX5_readsRest 45 = .ok (.iconst 0, 1) := dk_3 (dk_at dksX5_readsRest_2 1 rfl rfl)
theorem dX5_readsRest_46 : decode cX5_readsRest 46 = .ok (.iconst 1, 1) := dk_4 (dk_at dksX5_readsRest_2 2 rfl rfl)
theorem dX5_readsRest_47 : decode cX5_readsRest 47 = .ok (.bipush 12, 2) := dk_16 12 (dk_at dksX5_readsRest_2 3 rfl rfl)
theorem dX5_readsRest_49 : decode cX5_readsRest 49 = .ok (.invokevirtual 79, 3) := dk_182 0 79 (dk_at dksX5_readsRest_2 5 rfl rfl)
theorem dX5_readsRest_52 : decode cX5_readsRest 52 = .ok (.ifCond .eq 40, 3) := dk_153 0 40 (dk_at dksX5_readsRest_2 8 rfl rfl)
theorem dX5_readsRest_55 : decode cX5_readsRest 55 = .ok (.aload_n 0, 1) := dk_42 (dk_at dksX5_readsRest_2 11 rfl rfl)
theorem dX5_readsRest_56 : decode cX5_readsRest 56 = .ok (.iconst 1, 1) := dk_4 (dk_at dksX5_readsRest_2 12 rfl rfl)
theorem dX5_readsRest_57 : decode cX5_readsRest 57 = .ok (.iconst 1, 1) := dk_4 (dk_at dksX5_readsRest_2 13 rfl rfl)
theorem dX5_readsRest_58 : decode cX5_readsRest 58 = .ok (.bipush 12, 2) := dk_16 12 (dk_at dksX5_readsRest_2 14 rfl rfl)
theorem dX5_readsRest_60 : decode cX5_readsRest 60 = .ok (.invokevirtual 79, 3) := dk_182 0 79 (dk_at dksX5_readsRest_2 16 rfl rfl)
theorem dX5_readsRest_63 : decode cX5_readsRest 63 = .ok (.ifCond .eq 29, 3) := dk_153 0 29 (dk_at dksX5_readsRest_2 19 rfl rfl)
theorem dX5_readsRest_66 : decode cX5_readsRest 66 = .ok (.aload_n 0, 1) := dk_42 (dk_at dksX5_readsRest_2 22 rfl rfl)
theorem dX5_readsRest_67 : decode cX5_readsRest 67 = .ok (.iconst 2, 1) := dk_5 (dk_at dksX5_readsRest_2 23 rfl rfl)
theorem dX5_readsRest_68 : decode cX5_readsRest 68 = .ok (.iconst 1, 1) := dk_4 (dk_at dksX5_readsRest_3 0 rfl rfl)
theorem dX5_readsRest_69 : decode cX5_readsRest 69 = .ok (.bipush 6, 2) := dk_16 6 (dk_at dksX5_readsRest_3 1 rfl rfl)
theorem dX5_readsRest_71 : decode cX5_readsRest 71 = .ok (.invokevirtual 79, 3) := dk_182 0 79 (dk_at dksX5_readsRest_3 3 rfl rfl)
theorem dX5_readsRest_74 : decode cX5_readsRest 74 = .ok (.ifCond .eq 18, 3) := dk_153 0 18 (dk_at dksX5_readsRest_3 6 rfl rfl)
theorem dX5_readsRest_77 : decode cX5_readsRest 77 = .ok (.aload_n 0, 1) := dk_42 (dk_at dksX5_readsRest_3 9 rfl rfl)
theorem dX5_readsRest_78 : decode cX5_readsRest 78 = .ok (.iconst 3, 1) := dk_6 (dk_at dksX5_readsRest_3 10 rfl rfl)
theorem dX5_readsRest_79 : decode cX5_readsRest 79 = .ok (.iconst 1, 1) := dk_4 (dk_at dksX5_readsRest_3 11 rfl rfl)
theorem dX5_readsRest_80 : decode cX5_readsRest 80 = .ok (.bipush 6, 2) := dk_16 6 (dk_at dksX5_readsRest_3 12 rfl rfl)
theorem dX5_readsRest_82 : decode cX5_readsRest 82 = .ok (.invokevirtual 79, 3) := dk_182 0 79 (dk_at dksX5_readsRest_3 14 rfl rfl)
theorem dX5_readsRest_85 : decode cX5_readsRest 85 = .ok (.ifCond .eq 7, 3) := dk_153 0 7 (dk_at dksX5_readsRest_3 17 rfl rfl)
theorem dX5_readsRest_88 : decode cX5_readsRest 88 = .ok (.iconst 1, 1) := dk_4 (dk_at dksX5_readsRest_3 20 rfl rfl)
theorem dX5_readsRest_89 : decode cX5_readsRest 89 = .ok (.goto 4, 3) := dk_167 0 4 (dk_at dksX5_readsRest_3 21 rfl rfl)
theorem dX5_readsRest_92 : decode cX5_readsRest 92 = .ok (.iconst 0, 1) := dk_3 (dk_at dksX5_readsRest_4 0 rfl rfl)
theorem dX5_readsRest_93 : decode cX5_readsRest 93 = .ok (.ireturn, 1) := dk_172 (dk_at dksX5_readsRest_4 1 rfl rfl)
theorem dX5_readsRest_94 : decode cX5_readsRest 94 = .ok (.aload_n 0, 1) := dk_42 (dk_at dksX5_readsRest_4 2 rfl rfl)
theorem dX5_readsRest_95 : decode cX5_readsRest 95 = .ok (.iconst 0, 1) := dk_3 (dk_at dksX5_readsRest_4 3 rfl rfl)
theorem dX5_readsRest_96 : decode cX5_readsRest 96 = .ok (.iconst 0, 1) := dk_3 (dk_at dksX5_readsRest_4 4 rfl rfl)
theorem dX5_readsRest_97 : decode cX5_readsRest 97 = .ok (.aload_n 0, 1) := dk_42 (dk_at dksX5_readsRest_4 5 rfl rfl)
theorem dX5_readsRest_98 : decode cX5_readsRest 98 = .ok (.getfield 29, 3) := dk_180 0 29 (dk_at dksX5_readsRest_4 6 rfl rfl)
theorem dX5_readsRest_101 : decode cX5_readsRest 101 = .ok (.iconst 0, 1) := dk_3 (dk_at dksX5_readsRest_4 9 rfl rfl)
theorem dX5_readsRest_102 : decode cX5_readsRest 102 = .ok (.iaload, 1) := dk_46 (dk_at dksX5_readsRest_4 10 rfl rfl)
theorem dX5_readsRest_103 : decode cX5_readsRest 103 = .ok (.iconst 1, 1) := dk_4 (dk_at dksX5_readsRest_4 11 rfl rfl)
theorem dX5_readsRest_104 : decode cX5_readsRest 104 = .ok (.isub, 1) := dk_100 (dk_at dksX5_readsRest_4 12 rfl rfl)
theorem dX5_readsRest_105 : decode cX5_readsRest 105 = .ok (.invokevirtual 79, 3) := dk_182 0 79 (dk_at dksX5_readsRest_4 13 rfl rfl)
theorem dX5_readsRest_108 : decode cX5_readsRest 108 = .ok (.ifCond .eq 24, 3) := dk_153 0 24 (dk_at dksX5_readsRest_4 16 rfl rfl)
theorem dX5_readsRest_111 : decode cX5_readsRest 111 = .ok (.aload_n 0, 1) := dk_42 (dk_at dksX5_readsRest_4 19 rfl rfl)
theorem dX5_readsRest_112 : decode cX5_readsRest 112 = .ok (.iconst 1, 1) := dk_4 (dk_at dksX5_readsRest_4 20 rfl rfl)
theorem dX5_readsRest_113 : decode cX5_readsRest 113 = .ok (.iconst 0, 1) := dk_3 (dk_at dksX5_readsRest_4 21 rfl rfl)
theorem dX5_readsRest_114 : decode cX5_readsRest 114 = .ok (.aload_n 0, 1) := dk_42 (dk_at dksX5_readsRest_4 22 rfl rfl)
theorem dX5_readsRest_115 : decode cX5_readsRest 115 = .ok (.getfield 29, 3) := dk_180 0 29 (dk_at dksX5_readsRest_5 0 rfl rfl)
theorem dX5_readsRest_118 : decode cX5_readsRest 118 = .ok (.iconst 2, 1) := dk_5 (dk_at dksX5_readsRest_5 3 rfl rfl)
theorem dX5_readsRest_119 : decode cX5_readsRest 119 = .ok (.iaload, 1) := dk_46 (dk_at dksX5_readsRest_5 4 rfl rfl)
theorem dX5_readsRest_120 : decode cX5_readsRest 120 = .ok (.iconst 1, 1) := dk_4 (dk_at dksX5_readsRest_5 5 rfl rfl)
theorem dX5_readsRest_121 : decode cX5_readsRest 121 = .ok (.isub, 1) := dk_100 (dk_at dksX5_readsRest_5 6 rfl rfl)
theorem dX5_readsRest_122 : decode cX5_readsRest 122 = .ok (.invokevirtual 79, 3) := dk_182 0 79 (dk_at dksX5_readsRest_5 7 rfl rfl)
theorem dX5_readsRest_125 : decode cX5_readsRest 125 = .ok (.ifCond .eq 7, 3) := dk_153 0 7 (dk_at dksX5_readsRest_5 10 rfl rfl)
theorem dX5_readsRest_128 : decode cX5_readsRest 128 = .ok (.iconst 1, 1) := dk_4 (dk_at dksX5_readsRest_5 13 rfl rfl)
theorem dX5_readsRest_129 : decode cX5_readsRest 129 = .ok (.goto 4, 3) := dk_167 0 4 (dk_at dksX5_readsRest_5 14 rfl rfl)
theorem dX5_readsRest_132 : decode cX5_readsRest 132 = .ok (.iconst 0, 1) := dk_3 (dk_at dksX5_readsRest_5 17 rfl rfl)
theorem dX5_readsRest_133 : decode cX5_readsRest 133 = .ok (.ireturn, 1) := dk_172 (dk_at dksX5_readsRest_5 18 rfl rfl)
theorem dX5_readsRest_134 : decode cX5_readsRest 134 = .ok (.aload_n 0, 1) := dk_42 (dk_at dksX5_readsRest_5 19 rfl rfl)
theorem dX5_readsRest_135 : decode cX5_readsRest 135 = .ok (.iconst 0, 1) := dk_3 (dk_at dksX5_readsRest_5 20 rfl rfl)
theorem dX5_readsRest_136 : decode cX5_readsRest 136 = .ok (.iconst 0, 1) := dk_3 (dk_at dksX5_readsRest_5 21 rfl rfl)
theorem dX5_readsRest_137 : decode cX5_readsRest 137 = .ok (.aload_n 0, 1) := dk_42 (dk_at dksX5_readsRest_5 22 rfl rfl)
theorem dX5_readsRest_138 : decode cX5_readsRest 138 = .ok (.getfield 29, 3) := dk_180 0 29 (dk_at dksX5_readsRest_6 0 rfl rfl)
theorem dX5_readsRest_141 : decode cX5_readsRest 141 = .ok (.iconst 3, 1) := dk_6 (dk_at dksX5_readsRest_6 3 rfl rfl)
theorem dX5_readsRest_142 : decode cX5_readsRest 142 = .ok (.iaload, 1) := dk_46 (dk_at dksX5_readsRest_6 4 rfl rfl)
theorem dX5_readsRest_143 : decode cX5_readsRest 143 = .ok (.iconst 1, 1) := dk_4 (dk_at dksX5_readsRest_6 5 rfl rfl)
theorem dX5_readsRest_144 : decode cX5_readsRest 144 = .ok (.isub, 1) := dk_100 (dk_at dksX5_readsRest_6 6 rfl rfl)
theorem dX5_readsRest_145 : decode cX5_readsRest 145 = .ok (.invokevirtual 79, 3) := dk_182 0 79 (dk_at dksX5_readsRest_6 7 rfl rfl)
theorem dX5_readsRest_148 : decode cX5_readsRest 148 = .ok (.ifCond .eq 24, 3) := dk_153 0 24 (dk_at dksX5_readsRest_6 10 rfl rfl)
theorem dX5_readsRest_151 : decode cX5_readsRest 151 = .ok (.aload_n 0, 1) := dk_42 (dk_at dksX5_readsRest_6 13 rfl rfl)
theorem dX5_readsRest_152 : decode cX5_readsRest 152 = .ok (.iconst 1, 1) := dk_4 (dk_at dksX5_readsRest_6 14 rfl rfl)
theorem dX5_readsRest_153 : decode cX5_readsRest 153 = .ok (.iconst 0, 1) := dk_3 (dk_at dksX5_readsRest_6 15 rfl rfl)
theorem dX5_readsRest_154 : decode cX5_readsRest 154 = .ok (.aload_n 0, 1) := dk_42 (dk_at dksX5_readsRest_6 16 rfl rfl)
theorem dX5_readsRest_155 : decode cX5_readsRest 155 = .ok (.getfield 29, 3) := dk_180 0 29 (dk_at dksX5_readsRest_6 17 rfl rfl)
theorem dX5_readsRest_158 : decode cX5_readsRest 158 = .ok (.iconst 2, 1) := dk_5 (dk_at dksX5_readsRest_6 20 rfl rfl)
theorem dX5_readsRest_159 : decode cX5_readsRest 159 = .ok (.iaload, 1) := dk_46 (dk_at dksX5_readsRest_6 21 rfl rfl)
theorem dX5_readsRest_160 : decode cX5_readsRest 160 = .ok (.iconst 1, 1) := dk_4 (dk_at dksX5_readsRest_6 22 rfl rfl)
theorem dX5_readsRest_161 : decode cX5_readsRest 161 = .ok (.isub, 1) := dk_100 (dk_at dksX5_readsRest_6 23 rfl rfl)
theorem dX5_readsRest_162 : decode cX5_readsRest 162 = .ok (.invokevirtual 79, 3) := dk_182 0 79 (dk_at dksX5_readsRest_7 0 rfl rfl)
theorem dX5_readsRest_165 : decode cX5_readsRest 165 = .ok (.ifCond .eq 7, 3) := dk_153 0 7 (dk_at dksX5_readsRest_7 3 rfl rfl)
theorem dX5_readsRest_168 : decode cX5_readsRest 168 = .ok (.iconst 1, 1) := dk_4 (dk_at dksX5_readsRest_7 6 rfl rfl)
theorem dX5_readsRest_169 : decode cX5_readsRest 169 = .ok (.goto 4, 3) := dk_167 0 4 (dk_at dksX5_readsRest_7 7 rfl rfl)
theorem dX5_readsRest_172 : decode cX5_readsRest 172 = .ok (.iconst 0, 1) := dk_3 (dk_at dksX5_readsRest_7 10 rfl rfl)
theorem dX5_readsRest_173 : decode cX5_readsRest 173 = .ok (.ireturn, 1) := dk_172 (dk_at dksX5_readsRest_7 11 rfl rfl)
theorem dX5_readsRest_174 : decode cX5_readsRest 174 = .ok (.aload_n 0, 1) := dk_42 (dk_at dksX5_readsRest_7 12 rfl rfl)
theorem dX5_readsRest_175 : decode cX5_readsRest 175 = .ok (.iconst 0, 1) := dk_3 (dk_at dksX5_readsRest_7 13 rfl rfl)
theorem dX5_readsRest_176 : decode cX5_readsRest 176 = .ok (.iconst 0, 1) := dk_3 (dk_at dksX5_readsRest_7 14 rfl rfl)
theorem dX5_readsRest_177 : decode cX5_readsRest 177 = .ok (.aload_n 0, 1) := dk_42 (dk_at dksX5_readsRest_7 15 rfl rfl)
theorem dX5_readsRest_178 : decode cX5_readsRest 178 = .ok (.getfield 29, 3) := dk_180 0 29 (dk_at dksX5_readsRest_7 16 rfl rfl)
theorem dX5_readsRest_181 : decode cX5_readsRest 181 = .ok (.iconst 1, 1) := dk_4 (dk_at dksX5_readsRest_7 19 rfl rfl)
theorem dX5_readsRest_182 : decode cX5_readsRest 182 = .ok (.iaload, 1) := dk_46 (dk_at dksX5_readsRest_7 20 rfl rfl)
theorem dX5_readsRest_183 : decode cX5_readsRest 183 = .ok (.iconst 1, 1) := dk_4 (dk_at dksX5_readsRest_7 21 rfl rfl)
theorem dX5_readsRest_184 : decode cX5_readsRest 184 = .ok (.isub, 1) := dk_100 (dk_at dksX5_readsRest_7 22 rfl rfl)
theorem dX5_readsRest_185 : decode cX5_readsRest 185 = .ok (.invokevirtual 79, 3) := dk_182 0 79 (dk_at dksX5_readsRest_8 0 rfl rfl)
theorem dX5_readsRest_188 : decode cX5_readsRest 188 = .ok (.ifCond .eq 24, 3) := dk_153 0 24 (dk_at dksX5_readsRest_8 3 rfl rfl)
theorem dX5_readsRest_191 : decode cX5_readsRest 191 = .ok (.aload_n 0, 1) := dk_42 (dk_at dksX5_readsRest_8 6 rfl rfl)
theorem dX5_readsRest_192 : decode cX5_readsRest 192 = .ok (.iconst 1, 1) := dk_4 (dk_at dksX5_readsRest_8 7 rfl rfl)
theorem dX5_readsRest_193 : decode cX5_readsRest 193 = .ok (.iconst 0, 1) := dk_3 (dk_at dksX5_readsRest_8 8 rfl rfl)
theorem dX5_readsRest_194 : decode cX5_readsRest 194 = .ok (.aload_n 0, 1) := dk_42 (dk_at dksX5_readsRest_8 9 rfl rfl)
theorem dX5_readsRest_195 : decode cX5_readsRest 195 = .ok (.getfield 29, 3) := dk_180 0 29 (dk_at dksX5_readsRest_8 10 rfl rfl)
theorem dX5_readsRest_198 : decode cX5_readsRest 198 = .ok (.iconst 3, 1) := dk_6 (dk_at dksX5_readsRest_8 13 rfl rfl)
theorem dX5_readsRest_199 : decode cX5_readsRest 199 = .ok (.iaload, 1) := dk_46 (dk_at dksX5_readsRest_8 14 rfl rfl)
theorem dX5_readsRest_200 : decode cX5_readsRest 200 = .ok (.iconst 1, 1) := dk_4 (dk_at dksX5_readsRest_8 15 rfl rfl)
theorem dX5_readsRest_201 : decode cX5_readsRest 201 = .ok (.isub, 1) := dk_100 (dk_at dksX5_readsRest_8 16 rfl rfl)
theorem dX5_readsRest_202 : decode cX5_readsRest 202 = .ok (.invokevirtual 79, 3) := dk_182 0 79 (dk_at dksX5_readsRest_8 17 rfl rfl)
theorem dX5_readsRest_205 : decode cX5_readsRest 205 = .ok (.ifCond .eq 7, 3) := dk_153 0 7 (dk_at dksX5_readsRest_8 20 rfl rfl)
theorem dX5_readsRest_208 : decode cX5_readsRest 208 = .ok (.iconst 1, 1) := dk_4 (dk_at dksX5_readsRest_8 23 rfl rfl)
theorem dX5_readsRest_209 : decode cX5_readsRest 209 = .ok (.goto 4, 3) := dk_167 0 4 (dk_at dksX5_readsRest_9 0 rfl rfl)
theorem dX5_readsRest_212 : decode cX5_readsRest 212 = .ok (.iconst 0, 1) := dk_3 (dk_at dksX5_readsRest_9 3 rfl rfl)
theorem dX5_readsRest_213 : decode cX5_readsRest 213 = .ok (.ireturn, 1) := dk_172 (dk_at dksX5_readsRest_9 4 rfl rfl)
theorem dX5_readsRest_214 : decode cX5_readsRest 214 = .ok (.aload_n 0, 1) := dk_42 (dk_at dksX5_readsRest_9 5 rfl rfl)
theorem dX5_readsRest_215 : decode cX5_readsRest 215 = .ok (.iconst 0, 1) := dk_3 (dk_at dksX5_readsRest_9 6 rfl rfl)
theorem dX5_readsRest_216 : decode cX5_readsRest 216 = .ok (.iconst 0, 1) := dk_3 (dk_at dksX5_readsRest_9 7 rfl rfl)
theorem dX5_readsRest_217 : decode cX5_readsRest 217 = .ok (.aload_n 0, 1) := dk_42 (dk_at dksX5_readsRest_9 8 rfl rfl)
theorem dX5_readsRest_218 : decode cX5_readsRest 218 = .ok (.getfield 29, 3) := dk_180 0 29 (dk_at dksX5_readsRest_9 9 rfl rfl)
theorem dX5_readsRest_221 : decode cX5_readsRest 221 = .ok (.iconst 0, 1) := dk_3 (dk_at dksX5_readsRest_9 12 rfl rfl)
theorem dX5_readsRest_222 : decode cX5_readsRest 222 = .ok (.iaload, 1) := dk_46 (dk_at dksX5_readsRest_9 13 rfl rfl)
theorem dX5_readsRest_223 : decode cX5_readsRest 223 = .ok (.iconst 1, 1) := dk_4 (dk_at dksX5_readsRest_9 14 rfl rfl)
theorem dX5_readsRest_224 : decode cX5_readsRest 224 = .ok (.isub, 1) := dk_100 (dk_at dksX5_readsRest_9 15 rfl rfl)
theorem dX5_readsRest_225 : decode cX5_readsRest 225 = .ok (.invokevirtual 79, 3) := dk_182 0 79 (dk_at dksX5_readsRest_9 16 rfl rfl)
theorem dX5_readsRest_228 : decode cX5_readsRest 228 = .ok (.ifCond .eq 18, 3) := dk_153 0 18 (dk_at dksX5_readsRest_9 19 rfl rfl)
theorem dX5_readsRest_231 : decode cX5_readsRest 231 = .ok (.aload_n 0, 1) := dk_42 (dk_at dksX5_readsRest_9 22 rfl rfl)
theorem dX5_readsRest_232 : decode cX5_readsRest 232 = .ok (.iconst 1, 1) := dk_4 (dk_at dksX5_readsRest_9 23 rfl rfl)
theorem dX5_readsRest_233 : decode cX5_readsRest 233 = .ok (.iconst 0, 1) := dk_3 (dk_at dksX5_readsRest_10 0 rfl rfl)
theorem dX5_readsRest_234 : decode cX5_readsRest 234 = .ok (.bipush 9, 2) := dk_16 9 (dk_at dksX5_readsRest_10 1 rfl rfl)
theorem dX5_readsRest_236 : decode cX5_readsRest 236 = .ok (.invokevirtual 79, 3) := dk_182 0 79 (dk_at dksX5_readsRest_10 3 rfl rfl)
theorem dX5_readsRest_239 : decode cX5_readsRest 239 = .ok (.ifCond .eq 7, 3) := dk_153 0 7 (dk_at dksX5_readsRest_10 6 rfl rfl)
theorem dX5_readsRest_242 : decode cX5_readsRest 242 = .ok (.iconst 1, 1) := dk_4 (dk_at dksX5_readsRest_10 9 rfl rfl)
theorem dX5_readsRest_243 : decode cX5_readsRest 243 = .ok (.goto 4, 3) := dk_167 0 4 (dk_at dksX5_readsRest_10 10 rfl rfl)
theorem dX5_readsRest_246 : decode cX5_readsRest 246 = .ok (.iconst 0, 1) := dk_3 (dk_at dksX5_readsRest_10 13 rfl rfl)
theorem dX5_readsRest_247 : decode cX5_readsRest 247 = .ok (.ireturn, 1) := dk_172 (dk_at dksX5_readsRest_10 14 rfl rfl)
theorem dX5_readsRest_248 : decode cX5_readsRest 248 = .ok (.aload_n 0, 1) := dk_42 (dk_at dksX5_readsRest_10 15 rfl rfl)
theorem dX5_readsRest_249 : decode cX5_readsRest 249 = .ok (.iconst 0, 1) := dk_3 (dk_at dksX5_readsRest_10 16 rfl rfl)
theorem dX5_readsRest_250 : decode cX5_readsRest 250 = .ok (.iconst 0, 1) := dk_3 (dk_at dksX5_readsRest_10 17 rfl rfl)
theorem dX5_readsRest_251 : decode cX5_readsRest 251 = .ok (.aload_n 0, 1) := dk_42 (dk_at dksX5_readsRest_10 18 rfl rfl)
theorem dX5_readsRest_252 : decode cX5_readsRest 252 = .ok (.getfield 29, 3) := dk_180 0 29 (dk_at dksX5_readsRest_10 19 rfl rfl)
theorem dX5_readsRest_255 : decode cX5_readsRest 255 = .ok (.iconst 1, 1) := dk_4 (dk_at dksX5_readsRest_10 22 rfl rfl)
theorem dX5_readsRest_256 : decode cX5_readsRest 256 = .ok (.iaload, 1) := dk_46 (dk_at dksX5_readsRest_10 23 rfl rfl)
theorem dX5_readsRest_257 : decode cX5_readsRest 257 = .ok (.iconst 1, 1) := dk_4 (dk_at dksX5_readsRest_11 0 rfl rfl)
theorem dX5_readsRest_258 : decode cX5_readsRest 258 = .ok (.isub, 1) := dk_100 (dk_at dksX5_readsRest_11 1 rfl rfl)
theorem dX5_readsRest_259 : decode cX5_readsRest 259 = .ok (.invokevirtual 79, 3) := dk_182 0 79 (dk_at dksX5_readsRest_11 2 rfl rfl)
theorem dX5_readsRest_262 : decode cX5_readsRest 262 = .ok (.ifCond .eq 18, 3) := dk_153 0 18 (dk_at dksX5_readsRest_11 5 rfl rfl)
theorem dX5_readsRest_265 : decode cX5_readsRest 265 = .ok (.aload_n 0, 1) := dk_42 (dk_at dksX5_readsRest_11 8 rfl rfl)
theorem dX5_readsRest_266 : decode cX5_readsRest 266 = .ok (.iconst 1, 1) := dk_4 (dk_at dksX5_readsRest_11 9 rfl rfl)
theorem dX5_readsRest_267 : decode cX5_readsRest 267 = .ok (.iconst 0, 1) := dk_3 (dk_at dksX5_readsRest_11 10 rfl rfl)
theorem dX5_readsRest_268 : decode cX5_readsRest 268 = .ok (.bipush 9, 2) := dk_16 9 (dk_at dksX5_readsRest_11 11 rfl rfl)
theorem dX5_readsRest_270 : decode cX5_readsRest 270 = .ok (.invokevirtual 79, 3) := dk_182 0 79 (dk_at dksX5_readsRest_11 13 rfl rfl)
theorem dX5_readsRest_273 : decode cX5_readsRest 273 = .ok (.ifCond .eq 7, 3) := dk_153 0 7 (dk_at dksX5_readsRest_11 16 rfl rfl)
theorem dX5_readsRest_276 : decode cX5_readsRest 276 = .ok (.iconst 1, 1) := dk_4 (dk_at dksX5_readsRest_11 19 rfl rfl)
theorem dX5_readsRest_277 : decode cX5_readsRest 277 = .ok (.goto 4, 3) := dk_167 0 4 (dk_at dksX5_readsRest_11 20 rfl rfl)
theorem dX5_readsRest_280 : decode cX5_readsRest 280 = .ok (.iconst 0, 1) := dk_3 (dk_at dksX5_readsRest_11 23 rfl rfl)
theorem dX5_readsRest_281 : decode cX5_readsRest 281 = .ok (.ireturn, 1) := dk_172 (dk_at dksX5_readsRest_12 0 rfl rfl)
theorem dX5_readsRest_282 : decode cX5_readsRest 282 = .ok (.iconst 1, 1) := dk_4 (dk_at dksX5_readsRest_12 1 rfl rfl)
theorem dX5_readsRest_283 : decode cX5_readsRest 283 = .ok (.ireturn, 1) := dk_172 (dk_at dksX5_readsRest_12 2 rfl rfl)
theorem dX5_readsRest_284 : decode cX5_readsRest 284 = .ok (.aload_n 0, 1) := dk_42 (dk_at dksX5_readsRest_12 3 rfl rfl)
theorem dX5_readsRest_285 : decode cX5_readsRest 285 = .ok (.invokevirtual 83, 3) := dk_182 0 83 (dk_at dksX5_readsRest_12 4 rfl rfl)
theorem dX5_readsRest_288 : decode cX5_readsRest 288 = .ok (.ireturn, 1) := dk_172 (dk_at dksX5_readsRest_12 7 rfl rfl)
abbrev cX5_number : ByteArray := prog_15_method_13_code
def yX5_number : MethodName := ⟨RX5, "number", "(III)Z"⟩
def dkwX5_number_5 : List UInt8 := [172]
abbrev dktX5_number_5 : List UInt8 := dkwX5_number_5 ++ []
def dkwX5_number_4 : List UInt8 := [184, 0, 47, 54, 5, 21, 5, 153, 0, 15, 42, 180, 0, 32, 27, 21, 4, 79, 42, 182, 0, 76, 21, 5]
abbrev dktX5_number_4 : List UInt8 := dkwX5_number_4 ++ dktX5_number_5
def dkwX5_number_3 : List UInt8 := [21, 5, 46, 96, 16, 48, 100, 54, 4, 132, 5, 1, 167, 255, 226, 21, 4, 133, 28, 133, 29, 133]
abbrev dktX5_number_3 : List UInt8 := dkwX5_number_3 ++ dktX5_number_4
def dkwX5_number_2 : List UInt8 := [180, 0, 66, 54, 5, 21, 5, 42, 180, 0, 63, 162, 0, 27, 16, 10, 21, 4, 104, 42, 180, 0, 20]
abbrev dktX5_number_2 : List UInt8 := dkwX5_number_2 ++ dktX5_number_3
def dkwX5_number_1 : List UInt8 := [153, 0, 16, 42, 180, 0, 63, 42, 180, 0, 66, 100, 5, 164, 0, 5, 3, 172, 3, 54, 4, 42]
abbrev dktX5_number_1 : List UInt8 := dkwX5_number_1 ++ dktX5_number_2
def dkwX5_number_0 : List UInt8 := [42, 180, 0, 66, 42, 180, 0, 51, 159, 0, 31, 42, 180, 0, 20, 42, 180, 0, 66, 46, 184, 0, 73]
abbrev dktX5_number_0 : List UInt8 := dkwX5_number_0 ++ dktX5_number_1
theorem dksX5_number_0 : cX5_number.data.toList.drop 0 = dktX5_number_0 := by decide +kernel
theorem dksX5_number_1 : cX5_number.data.toList.drop 23 = dktX5_number_1 := dk_seg dksX5_number_0 23 rfl rfl
theorem dksX5_number_2 : cX5_number.data.toList.drop 45 = dktX5_number_2 := dk_seg dksX5_number_1 22 rfl rfl
theorem dksX5_number_3 : cX5_number.data.toList.drop 68 = dktX5_number_3 := dk_seg dksX5_number_2 23 rfl rfl
theorem dksX5_number_4 : cX5_number.data.toList.drop 90 = dktX5_number_4 := dk_seg dksX5_number_3 22 rfl rfl
theorem dksX5_number_5 : cX5_number.data.toList.drop 114 = dktX5_number_5 := dk_seg dksX5_number_4 24 rfl rfl
theorem dX5_number_0 : decode cX5_number 0 = .ok (.aload_n 0, 1) := dk_42 (dk_at dksX5_number_0 0 rfl rfl)
theorem dX5_number_1 : decode cX5_number 1 = .ok (.getfield 66, 3) := dk_180 0 66 (dk_at dksX5_number_0 1 rfl rfl)
theorem dX5_number_4 : decode cX5_number 4 = .ok (.aload_n 0, 1) := dk_42 (dk_at dksX5_number_0 4 rfl rfl)
theorem dX5_number_5 : decode cX5_number 5 = .ok (.getfield 51, 3) := dk_180 0 51 (dk_at dksX5_number_0 5 rfl rfl)
theorem dX5_number_8 : decode cX5_number 8 = .ok (.if_icmp .eq 31, 3) := dk_159 0 31 (dk_at dksX5_number_0 8 rfl rfl)
theorem dX5_number_11 : decode cX5_number 11 = .ok (.aload_n 0, 1) := dk_42 (dk_at dksX5_number_0 11 rfl rfl)
theorem dX5_number_12 : decode cX5_number 12 = .ok (.getfield 20, 3) := dk_180 0 20 (dk_at dksX5_number_0 12 rfl rfl)
theorem dX5_number_15 : decode cX5_number 15 = .ok (.aload_n 0, 1) := dk_42 (dk_at dksX5_number_0 15 rfl rfl)
theorem dX5_number_16 : decode cX5_number 16 = .ok (.getfield 66, 3) := dk_180 0 66 (dk_at dksX5_number_0 16 rfl rfl)
theorem dX5_number_19 : decode cX5_number 19 = .ok (.iaload, 1) := dk_46 (dk_at dksX5_number_0 19 rfl rfl)
theorem dX5_number_20 : decode cX5_number 20 = .ok (.invokestatic 73, 3) := dk_184 0 73 (dk_at dksX5_number_0 20 rfl rfl)
theorem dX5_number_23 : decode cX5_number 23 = .ok (.ifCond .eq 16, 3) := dk_153 0 16 (dk_at dksX5_number_1 0 rfl rfl)
theorem dX5_number_26 : decode cX5_number 26 = .ok (.aload_n 0, 1) := dk_42 (dk_at dksX5_number_1 3 rfl rfl)
theorem dX5_number_27 : decode cX5_number 27 = .ok (.getfield 63, 3) := dk_180 0 63 (dk_at dksX5_number_1 4 rfl rfl)
theorem dX5_number_30 : decode cX5_number 30 = .ok (.aload_n 0, 1) := dk_42 (dk_at dksX5_number_1 7 rfl rfl)
theorem dX5_number_31 : decode cX5_number 31 = .ok (.getfield 66, 3) := dk_180 0 66 (dk_at dksX5_number_1 8 rfl rfl)
theorem dX5_number_34 : decode cX5_number 34 = .ok (.isub, 1) := dk_100 (dk_at dksX5_number_1 11 rfl rfl)
theorem dX5_number_35 : decode cX5_number 35 = .ok (.iconst 2, 1) := dk_5 (dk_at dksX5_number_1 12 rfl rfl)
theorem dX5_number_36 : decode cX5_number 36 = .ok (.if_icmp .le 5, 3) := dk_164 0 5 (dk_at dksX5_number_1 13 rfl rfl)
theorem dX5_number_39 : decode cX5_number 39 = .ok (.iconst 0, 1) := dk_3 (dk_at dksX5_number_1 16 rfl rfl)
theorem dX5_number_40 : decode cX5_number 40 = .ok (.ireturn, 1) := dk_172 (dk_at dksX5_number_1 17 rfl rfl)
theorem dX5_number_41 : decode cX5_number 41 = .ok (.iconst 0, 1) := dk_3 (dk_at dksX5_number_1 18 rfl rfl)
theorem dX5_number_42 : decode cX5_number 42 = .ok (.istore 4, 2) := dk_54 4 (dk_at dksX5_number_1 19 rfl rfl)
theorem dX5_number_44 : decode cX5_number 44 = .ok (.aload_n 0, 1) := dk_42 (dk_at dksX5_number_1 21 rfl rfl)
theorem dX5_number_45 : decode cX5_number 45 = .ok (.getfield 66, 3) := dk_180 0 66 (dk_at dksX5_number_2 0 rfl rfl)
theorem dX5_number_48 : decode cX5_number 48 = .ok (.istore 5, 2) := dk_54 5 (dk_at dksX5_number_2 3 rfl rfl)
theorem dX5_number_50 : decode cX5_number 50 = .ok (.iload 5, 2) := dk_21 5 (dk_at dksX5_number_2 5 rfl rfl)
theorem dX5_number_52 : decode cX5_number 52 = .ok (.aload_n 0, 1) := dk_42 (dk_at dksX5_number_2 7 rfl rfl)
theorem dX5_number_53 : decode cX5_number 53 = .ok (.getfield 63, 3) := dk_180 0 63 (dk_at dksX5_number_2 8 rfl rfl)
theorem dX5_number_56 : decode cX5_number 56 = .ok (.if_icmp .ge 27, 3) := dk_162 0 27 (dk_at dksX5_number_2 11 rfl rfl)
theorem dX5_number_59 : decode cX5_number 59 = .ok (.bipush 10, 2) := dk_16 10 (dk_at dksX5_number_2 14 rfl rfl)
theorem dX5_number_61 : decode cX5_number 61 = .ok (.iload 4, 2) := dk_21 4 (dk_at dksX5_number_2 16 rfl rfl)
theorem dX5_number_63 : decode cX5_number 63 = .ok (.imul, 1) := dk_104 (dk_at dksX5_number_2 18 rfl rfl)
theorem dX5_number_64 : decode cX5_number 64 = .ok (.aload_n 0, 1) := dk_42 (dk_at dksX5_number_2 19 rfl rfl)
theorem dX5_number_65 : decode cX5_number 65 = .ok (.getfield 20, 3) := dk_180 0 20 (dk_at dksX5_number_2 20 rfl rfl)
theorem dX5_number_68 : decode cX5_number 68 = .ok (.iload 5, 2) := dk_21 5 (dk_at dksX5_number_3 0 rfl rfl)
theorem dX5_number_70 : decode cX5_number 70 = .ok (.iaload, 1) := dk_46 (dk_at dksX5_number_3 2 rfl rfl)
theorem dX5_number_71 : decode cX5_number 71 = .ok (.iadd, 1) := dk_96 (dk_at dksX5_number_3 3 rfl rfl)
theorem dX5_number_72 : decode cX5_number 72 = .ok (.bipush 48, 2) := dk_16 48 (dk_at dksX5_number_3 4 rfl rfl)
theorem dX5_number_74 : decode cX5_number 74 = .ok (.isub, 1) := dk_100 (dk_at dksX5_number_3 6 rfl rfl)
theorem dX5_number_75 : decode cX5_number 75 = .ok (.istore 4, 2) := dk_54 4 (dk_at dksX5_number_3 7 rfl rfl)
theorem dX5_number_77 : decode cX5_number 77 = .ok (.iinc 5 1, 3) := dk_132 5 1 (dk_at dksX5_number_3 9 rfl rfl)
theorem dX5_number_80 : decode cX5_number 80 = .ok (.goto (-30), 3) := dk_167 255 226 (dk_at dksX5_number_3 12 rfl rfl)
theorem dX5_number_83 : decode cX5_number 83 = .ok (.iload 4, 2) := dk_21 4 (dk_at dksX5_number_3 15 rfl rfl)
theorem dX5_number_85 : decode cX5_number 85 = .ok (.i2l, 1) := dk_133 (dk_at dksX5_number_3 17 rfl rfl)
theorem dX5_number_86 : decode cX5_number 86 = .ok (.iload_n 2, 1) := dk_28 (dk_at dksX5_number_3 18 rfl rfl)
theorem dX5_number_87 : decode cX5_number 87 = .ok (.i2l, 1) := dk_133 (dk_at dksX5_number_3 19 rfl rfl)
theorem dX5_number_88 : decode cX5_number 88 = .ok (.iload_n 3, 1) := dk_29 (dk_at dksX5_number_3 20 rfl rfl)
theorem dX5_number_89 : decode cX5_number 89 = .ok (.i2l, 1) := dk_133 (dk_at dksX5_number_3 21 rfl rfl)
theorem dX5_number_90 : decode cX5_number 90 = .ok (.invokestatic 47, 3) := dk_184 0 47 (dk_at dksX5_number_4 0 rfl rfl)
theorem dX5_number_93 : decode cX5_number 93 = .ok (.istore 5, 2) := dk_54 5 (dk_at dksX5_number_4 3 rfl rfl)
theorem dX5_number_95 : decode cX5_number 95 = .ok (.iload 5, 2) := dk_21 5 (dk_at dksX5_number_4 5 rfl rfl)
theorem dX5_number_97 : decode cX5_number 97 = .ok (.ifCond .eq 15, 3) := dk_153 0 15 (dk_at dksX5_number_4 7 rfl rfl)
theorem dX5_number_100 : decode cX5_number 100 = .ok (.aload_n 0, 1) := dk_42 (dk_at dksX5_number_4 10 rfl rfl)
theorem dX5_number_101 : decode cX5_number 101 = .ok (.getfield 32, 3) := dk_180 0 32 (dk_at dksX5_number_4 11 rfl rfl)
theorem dX5_number_104 : decode cX5_number 104 = .ok (.iload_n 1, 1) := dk_27 (dk_at dksX5_number_4 14 rfl rfl)
theorem dX5_number_105 : decode cX5_number 105 = .ok (.iload 4, 2) := dk_21 4 (dk_at dksX5_number_4 15 rfl rfl)
theorem dX5_number_107 : decode cX5_number 107 = .ok (.iastore, 1) := dk_79 (dk_at dksX5_number_4 17 rfl rfl)
theorem dX5_number_108 : decode cX5_number 108 = .ok (.aload_n 0, 1) := dk_42 (dk_at dksX5_number_4 18 rfl rfl)
theorem dX5_number_109 : decode cX5_number 109 = .ok (.invokevirtual 76, 3) := dk_182 0 76 (dk_at dksX5_number_4 19 rfl rfl)
theorem dX5_number_112 : decode cX5_number 112 = .ok (.iload 5, 2) := dk_21 5 (dk_at dksX5_number_4 22 rfl rfl)
theorem dX5_number_114 : decode cX5_number 114 = .ok (.ireturn, 1) := dk_172 (dk_at dksX5_number_5 0 rfl rfl)
abbrev cX5_crossesHere : ByteArray := prog_15_method_14_code
def yX5_crossesHere : MethodName := ⟨RX5, "crossesHere", "()Z"⟩
def dkwX5_crossesHere_6 : List UInt8 := [153, 0, 21, 42, 180, 0, 32, 3, 29, 79, 42, 180, 0, 32, 4, 27, 79, 42, 182, 0, 76, 28, 172]
abbrev dktX5_crossesHere_6 : List UInt8 := dkwX5_crossesHere_6 ++ []
def dkwX5_crossesHere_5 : List UInt8 := [46, 16, 120, 160, 0, 10, 4, 21, 4, 120, 167, 0, 4, 3, 128, 62, 132, 4, 1, 167, 255, 175, 28]
abbrev dktX5_crossesHere_5 : List UInt8 := dkwX5_crossesHere_5 ++ dktX5_crossesHere_6
def dkwX5_crossesHere_4 : List UInt8 := [46, 16, 111, 160, 0, 7, 4, 167, 0, 4, 3, 61, 29, 42, 180, 0, 20, 42, 180, 0, 66, 21, 4, 96]
abbrev dktX5_crossesHere_4 : List UInt8 := dkwX5_crossesHere_4 ++ dktX5_crossesHere_5
def dkwX5_crossesHere_3 : List UInt8 := [42, 180, 0, 66, 21, 4, 96, 46, 16, 120, 159, 0, 20, 42, 180, 0, 20, 42, 180, 0, 66, 21, 4, 96]
abbrev dktX5_crossesHere_3 : List UInt8 := dkwX5_crossesHere_3 ++ dktX5_crossesHere_4
def dkwX5_crossesHere_2 : List UInt8 := [167, 0, 4, 3, 61, 3, 62, 3, 54, 4, 21, 4, 27, 162, 0, 81, 28, 153, 0, 77, 42, 180, 0, 20]
abbrev dktX5_crossesHere_2 : List UInt8 := dkwX5_crossesHere_2 ++ dktX5_crossesHere_3
def dkwX5_crossesHere_1 : List UInt8 := [163, 0, 26, 42, 180, 0, 29, 7, 46, 153, 0, 13, 27, 42, 180, 0, 29, 8, 46, 160, 0, 7, 4]
abbrev dktX5_crossesHere_1 : List UInt8 := dkwX5_crossesHere_1 ++ dktX5_crossesHere_2
def dkwX5_crossesHere_0 : List UInt8 := [42, 180, 0, 63, 42, 180, 0, 66, 100, 60, 42, 180, 0, 66, 42, 180, 0, 51, 162, 0, 32, 27, 16, 12]
abbrev dktX5_crossesHere_0 : List UInt8 := dkwX5_crossesHere_0 ++ dktX5_crossesHere_1
theorem dksX5_crossesHere_0 : cX5_crossesHere.data.toList.drop 0 = dktX5_crossesHere_0 := by decide +kernel
theorem dksX5_crossesHere_1 : cX5_crossesHere.data.toList.drop 24 = dktX5_crossesHere_1 := dk_seg dksX5_crossesHere_0 24 rfl rfl
theorem dksX5_crossesHere_2 : cX5_crossesHere.data.toList.drop 47 = dktX5_crossesHere_2 := dk_seg dksX5_crossesHere_1 23 rfl rfl
theorem dksX5_crossesHere_3 : cX5_crossesHere.data.toList.drop 71 = dktX5_crossesHere_3 := dk_seg dksX5_crossesHere_2 24 rfl rfl
theorem dksX5_crossesHere_4 : cX5_crossesHere.data.toList.drop 95 = dktX5_crossesHere_4 := dk_seg dksX5_crossesHere_3 24 rfl rfl
theorem dksX5_crossesHere_5 : cX5_crossesHere.data.toList.drop 119 = dktX5_crossesHere_5 := dk_seg dksX5_crossesHere_4 24 rfl rfl
theorem dksX5_crossesHere_6 : cX5_crossesHere.data.toList.drop 142 = dktX5_crossesHere_6 := dk_seg dksX5_crossesHere_5 23 rfl rfl
theorem dX5_crossesHere_0 : decode cX5_crossesHere 0 = .ok (.aload_n 0, 1) := dk_42 (dk_at dksX5_crossesHere_0 0 rfl rfl)
theorem dX5_crossesHere_1 : decode cX5_crossesHere 1 = .ok (.getfield 63, 3) := dk_180 0 63 (dk_at dksX5_crossesHere_0 1 rfl rfl)
theorem dX5_crossesHere_4 : decode cX5_crossesHere 4 = .ok (.aload_n 0, 1) := dk_42 (dk_at dksX5_crossesHere_0 4 rfl rfl)
theorem dX5_crossesHere_5 : decode cX5_crossesHere 5 = .ok (.getfield 66, 3) := dk_180 0 66 (dk_at dksX5_crossesHere_0 5 rfl rfl)
theorem dX5_crossesHere_8 : decode cX5_crossesHere 8 = .ok (.isub, 1) := dk_100 (dk_at dksX5_crossesHere_0 8 rfl rfl)
theorem dX5_crossesHere_9 : decode cX5_crossesHere 9 = .ok (.istore_n 1, 1) := dk_60 (dk_at dksX5_crossesHere_0 9 rfl rfl)
theorem dX5_crossesHere_10 : decode cX5_crossesHere 10 = .ok (.aload_n 0, 1) := dk_42 (dk_at dksX5_crossesHere_0 10 rfl rfl)
theorem dX5_crossesHere_11 : decode cX5_crossesHere 11 = .ok (.getfield 66, 3) := dk_180 0 66 (dk_at dksX5_crossesHere_0 11 rfl rfl)
theorem dX5_crossesHere_14 : decode cX5_crossesHere 14 = .ok (.aload_n 0, 1) := dk_42 (dk_at dksX5_crossesHere_0 14 rfl rfl)
theorem dX5_crossesHere_15 : decode cX5_crossesHere 15 = .ok (.getfield 51, 3) := dk_180 0 51 (dk_at dksX5_crossesHere_0 15 rfl rfl)
theorem dX5_crossesHere_18 : decode cX5_crossesHere 18 = .ok (.if_icmp .ge 32, 3) := dk_162 0 32 (dk_at dksX5_crossesHere_0 18 rfl rfl)
theorem dX5_crossesHere_21 : decode cX5_crossesHere 21 = .ok (.iload_n 1, 1) := dk_27 (dk_at dksX5_crossesHere_0 21 rfl rfl)
theorem dX5_crossesHere_22 : decode cX5_crossesHere 22 = .ok (.bipush 12, 2) := dk_16 12 (dk_at dksX5_crossesHere_0 22 rfl rfl)
theorem dX5_crossesHere_24 : decode cX5_crossesHere 24 = .ok (.if_icmp .gt 26, 3) := dk_163 0 26 (dk_at dksX5_crossesHere_1 0 rfl rfl)
theorem dX5_crossesHere_27 : decode cX5_crossesHere 27 = .ok (.aload_n 0, 1) := dk_42 (dk_at dksX5_crossesHere_1 3 rfl rfl)
theorem dX5_crossesHere_28 : decode cX5_crossesHere 28 = .ok (.getfield 29, 3) := dk_180 0 29 (dk_at dksX5_crossesHere_1 4 rfl rfl)
theorem dX5_crossesHere_31 : decode cX5_crossesHere 31 = .ok (.iconst 4, 1) := dk_7 (dk_at dksX5_crossesHere_1 7 rfl rfl)
theorem dX5_crossesHere_32 : decode cX5_crossesHere 32 = .ok (.iaload, 1) := dk_46 (dk_at dksX5_crossesHere_1 8 rfl rfl)
theorem dX5_crossesHere_33 : decode cX5_crossesHere 33 = .ok (.ifCond .eq 13, 3) := dk_153 0 13 (dk_at dksX5_crossesHere_1 9 rfl rfl)
theorem dX5_crossesHere_36 : decode cX5_crossesHere 36 = .ok (.iload_n 1, 1) := dk_27 (dk_at dksX5_crossesHere_1 12 rfl rfl)
theorem dX5_crossesHere_37 : decode cX5_crossesHere 37 = .ok (.aload_n 0, 1) := dk_42 (dk_at dksX5_crossesHere_1 13 rfl rfl)
theorem dX5_crossesHere_38 : decode cX5_crossesHere 38 = .ok (.getfield 29, 3) := dk_180 0 29 (dk_at dksX5_crossesHere_1 14 rfl rfl)
theorem dX5_crossesHere_41 : decode cX5_crossesHere 41 = .ok (.iconst 5, 1) := dk_8 (dk_at dksX5_crossesHere_1 17 rfl rfl)
theorem dX5_crossesHere_42 : decode cX5_crossesHere 42 = .ok (.iaload, 1) := dk_46 (dk_at dksX5_crossesHere_1 18 rfl rfl)
theorem dX5_crossesHere_43 : decode cX5_crossesHere 43 = .ok (.if_icmp .ne 7, 3) := dk_160 0 7 (dk_at dksX5_crossesHere_1 19 rfl rfl)
theorem dX5_crossesHere_46 : decode cX5_crossesHere 46 = .ok (.iconst 1, 1) := dk_4 (dk_at dksX5_crossesHere_1 22 rfl rfl)
theorem dX5_crossesHere_47 : decode cX5_crossesHere 47 = .ok (.goto 4, 3) := dk_167 0 4 (dk_at dksX5_crossesHere_2 0 rfl rfl)
theorem dX5_crossesHere_50 : decode cX5_crossesHere 50 = .ok (.iconst 0, 1) := dk_3 (dk_at dksX5_crossesHere_2 3 rfl rfl)
theorem dX5_crossesHere_51 : decode cX5_crossesHere 51 = .ok (.istore_n 2, 1) := dk_61 (dk_at dksX5_crossesHere_2 4 rfl rfl)
theorem dX5_crossesHere_52 : decode cX5_crossesHere 52 = .ok (.iconst 0, 1) := dk_3 (dk_at dksX5_crossesHere_2 5 rfl rfl)
theorem dX5_crossesHere_53 : decode cX5_crossesHere 53 = .ok (.istore_n 3, 1) := dk_62 (dk_at dksX5_crossesHere_2 6 rfl rfl)
theorem dX5_crossesHere_54 : decode cX5_crossesHere 54 = .ok (.iconst 0, 1) := dk_3 (dk_at dksX5_crossesHere_2 7 rfl rfl)
theorem dX5_crossesHere_55 : decode cX5_crossesHere 55 = .ok (.istore 4, 2) := dk_54 4 (dk_at dksX5_crossesHere_2 8 rfl rfl)
theorem dX5_crossesHere_57 : decode cX5_crossesHere 57 = .ok (.iload 4, 2) := dk_21 4 (dk_at dksX5_crossesHere_2 10 rfl rfl)
theorem dX5_crossesHere_59 : decode cX5_crossesHere 59 = .ok (.iload_n 1, 1) := dk_27 (dk_at dksX5_crossesHere_2 12 rfl rfl)
theorem dX5_crossesHere_60 : decode cX5_crossesHere 60 = .ok (.if_icmp .ge 81, 3) := dk_162 0 81 (dk_at dksX5_crossesHere_2 13 rfl rfl)
theorem dX5_crossesHere_63 : decode cX5_crossesHere 63 = .ok (.iload_n 2, 1) := dk_28 (dk_at dksX5_crossesHere_2 16 rfl rfl)
theorem dX5_crossesHere_64 : decode cX5_crossesHere 64 = .ok (.ifCond .eq 77, 3) := dk_153 0 77 (dk_at dksX5_crossesHere_2 17 rfl rfl)
theorem dX5_crossesHere_67 : decode cX5_crossesHere 67 = .ok (.aload_n 0, 1) := dk_42 (dk_at dksX5_crossesHere_2 20 rfl rfl)
theorem dX5_crossesHere_68 : decode cX5_crossesHere 68 = .ok (.getfield 20, 3) := dk_180 0 20 (dk_at dksX5_crossesHere_2 21 rfl rfl)
theorem dX5_crossesHere_71 : decode cX5_crossesHere 71 = .ok (.aload_n 0, 1) := dk_42 (dk_at dksX5_crossesHere_3 0 rfl rfl)
theorem dX5_crossesHere_72 : decode cX5_crossesHere 72 = .ok (.getfield 66, 3) := dk_180 0 66 (dk_at dksX5_crossesHere_3 1 rfl rfl)
theorem dX5_crossesHere_75 : decode cX5_crossesHere 75 = .ok (.iload 4, 2) := dk_21 4 (dk_at dksX5_crossesHere_3 4 rfl rfl)
theorem dX5_crossesHere_77 : decode cX5_crossesHere 77 = .ok (.iadd, 1) := dk_96 (dk_at dksX5_crossesHere_3 6 rfl rfl)
theorem dX5_crossesHere_78 : decode cX5_crossesHere 78 = .ok (.iaload, 1) := dk_46 (dk_at dksX5_crossesHere_3 7 rfl rfl)
theorem dX5_crossesHere_79 : decode cX5_crossesHere 79 = .ok (.bipush 120, 2) := dk_16 120 (dk_at dksX5_crossesHere_3 8 rfl rfl)
theorem dX5_crossesHere_81 : decode cX5_crossesHere 81 = .ok (.if_icmp .eq 20, 3) := dk_159 0 20 (dk_at dksX5_crossesHere_3 10 rfl rfl)
theorem dX5_crossesHere_84 : decode cX5_crossesHere 84 = .ok (.aload_n 0, 1) := dk_42 (dk_at dksX5_crossesHere_3 13 rfl rfl)
theorem dX5_crossesHere_85 : decode cX5_crossesHere 85 = .ok (.getfield 20, 3) := dk_180 0 20 (dk_at dksX5_crossesHere_3 14 rfl rfl)
theorem dX5_crossesHere_88 : decode cX5_crossesHere 88 = .ok (.aload_n 0, 1) := dk_42 (dk_at dksX5_crossesHere_3 17 rfl rfl)
theorem dX5_crossesHere_89 : decode cX5_crossesHere 89 = .ok (.getfield 66, 3) := dk_180 0 66 (dk_at dksX5_crossesHere_3 18 rfl rfl)
theorem dX5_crossesHere_92 : decode cX5_crossesHere 92 = .ok (.iload 4, 2) := dk_21 4 (dk_at dksX5_crossesHere_3 21 rfl rfl)
theorem dX5_crossesHere_94 : decode cX5_crossesHere 94 = .ok (.iadd, 1) := dk_96 (dk_at dksX5_crossesHere_3 23 rfl rfl)
theorem dX5_crossesHere_95 : decode cX5_crossesHere 95 = .ok (.iaload, 1) := dk_46 (dk_at dksX5_crossesHere_4 0 rfl rfl)
theorem dX5_crossesHere_96 : decode cX5_crossesHere 96 = .ok (.bipush 111, 2) := dk_16 111 (dk_at dksX5_crossesHere_4 1 rfl rfl)
theorem dX5_crossesHere_98 : decode cX5_crossesHere 98 = .ok (.if_icmp .ne 7, 3) := dk_160 0 7 (dk_at dksX5_crossesHere_4 3 rfl rfl)
theorem dX5_crossesHere_101 : decode cX5_crossesHere 101 = .ok (.iconst 1, 1) := dk_4 (dk_at dksX5_crossesHere_4 6 rfl rfl)
theorem dX5_crossesHere_102 : decode cX5_crossesHere 102 = .ok (.goto 4, 3) := dk_167 0 4 (dk_at dksX5_crossesHere_4 7 rfl rfl)
theorem dX5_crossesHere_105 : decode cX5_crossesHere 105 = .ok (.iconst 0, 1) := dk_3 (dk_at dksX5_crossesHere_4 10 rfl rfl)
theorem dX5_crossesHere_106 : decode cX5_crossesHere 106 = .ok (.istore_n 2, 1) := dk_61 (dk_at dksX5_crossesHere_4 11 rfl rfl)
theorem dX5_crossesHere_107 : decode cX5_crossesHere 107 = .ok (.iload_n 3, 1) := dk_29 (dk_at dksX5_crossesHere_4 12 rfl rfl)
theorem dX5_crossesHere_108 : decode cX5_crossesHere 108 = .ok (.aload_n 0, 1) := dk_42 (dk_at dksX5_crossesHere_4 13 rfl rfl)
theorem dX5_crossesHere_109 : decode cX5_crossesHere 109 = .ok (.getfield 20, 3) := dk_180 0 20 (dk_at dksX5_crossesHere_4 14 rfl rfl)
theorem dX5_crossesHere_112 : decode cX5_crossesHere 112 = .ok (.aload_n 0, 1) := dk_42 (dk_at dksX5_crossesHere_4 17 rfl rfl)
theorem dX5_crossesHere_113 : decode cX5_crossesHere 113 = .ok (.getfield 66, 3) := dk_180 0 66 (dk_at dksX5_crossesHere_4 18 rfl rfl)
theorem dX5_crossesHere_116 : decode cX5_crossesHere 116 = .ok (.iload 4, 2) := dk_21 4 (dk_at dksX5_crossesHere_4 21 rfl rfl)
theorem dX5_crossesHere_118 : decode cX5_crossesHere 118 = .ok (.iadd, 1) := dk_96 (dk_at dksX5_crossesHere_4 23 rfl rfl)
theorem dX5_crossesHere_119 : decode cX5_crossesHere 119 = .ok (.iaload, 1) := dk_46 (dk_at dksX5_crossesHere_5 0 rfl rfl)
theorem dX5_crossesHere_120 : decode cX5_crossesHere 120 = .ok (.bipush 120, 2) := dk_16 120 (dk_at dksX5_crossesHere_5 1 rfl rfl)
theorem dX5_crossesHere_122 : decode cX5_crossesHere 122 = .ok (.if_icmp .ne 10, 3) := dk_160 0 10 (dk_at dksX5_crossesHere_5 3 rfl rfl)
theorem dX5_crossesHere_125 : decode cX5_crossesHere 125 = .ok (.iconst 1, 1) := dk_4 (dk_at dksX5_crossesHere_5 6 rfl rfl)
theorem dX5_crossesHere_126 : decode cX5_crossesHere 126 = .ok (.iload 4, 2) := dk_21 4 (dk_at dksX5_crossesHere_5 7 rfl rfl)
theorem dX5_crossesHere_128 : decode cX5_crossesHere 128 = .ok (.ishl, 1) := dk_120 (dk_at dksX5_crossesHere_5 9 rfl rfl)
theorem dX5_crossesHere_129 : decode cX5_crossesHere 129 = .ok (.goto 4, 3) := dk_167 0 4 (dk_at dksX5_crossesHere_5 10 rfl rfl)
theorem dX5_crossesHere_132 : decode cX5_crossesHere 132 = .ok (.iconst 0, 1) := dk_3 (dk_at dksX5_crossesHere_5 13 rfl rfl)
theorem dX5_crossesHere_133 : decode cX5_crossesHere 133 = .ok (.ior, 1) := dk_128 (dk_at dksX5_crossesHere_5 14 rfl rfl)
theorem dX5_crossesHere_134 : decode cX5_crossesHere 134 = .ok (.istore_n 3, 1) := dk_62 (dk_at dksX5_crossesHere_5 15 rfl rfl)
theorem dX5_crossesHere_135 : decode cX5_crossesHere 135 = .ok (.iinc 4 1, 3) := dk_132 4 1 (dk_at dksX5_crossesHere_5 16 rfl rfl)
theorem dX5_crossesHere_138 : decode cX5_crossesHere 138 = .ok (.goto (-81), 3) := dk_167 255 175 (dk_at dksX5_crossesHere_5 19 rfl rfl)
theorem dX5_crossesHere_141 : decode cX5_crossesHere 141 = .ok (.iload_n 2, 1) := dk_28 (dk_at dksX5_crossesHere_5 22 rfl rfl)
theorem dX5_crossesHere_142 : decode cX5_crossesHere 142 = .ok (.ifCond .eq 21, 3) := dk_153 0 21 (dk_at dksX5_crossesHere_6 0 rfl rfl)
theorem dX5_crossesHere_145 : decode cX5_crossesHere 145 = .ok (.aload_n 0, 1) := dk_42 (dk_at dksX5_crossesHere_6 3 rfl rfl)
theorem dX5_crossesHere_146 : decode cX5_crossesHere 146 = .ok (.getfield 32, 3) := dk_180 0 32 (dk_at dksX5_crossesHere_6 4 rfl rfl)
theorem dX5_crossesHere_149 : decode cX5_crossesHere 149 = .ok (.iconst 0, 1) := dk_3 (dk_at dksX5_crossesHere_6 7 rfl rfl)
theorem dX5_crossesHere_150 : decode cX5_crossesHere 150 = .ok (.iload_n 3, 1) := dk_29 (dk_at dksX5_crossesHere_6 8 rfl rfl)
theorem dX5_crossesHere_151 : decode cX5_crossesHere 151 = .ok (.iastore, 1) := dk_79 (dk_at dksX5_crossesHere_6 9 rfl rfl)
theorem dX5_crossesHere_152 : decode cX5_crossesHere 152 = .ok (.aload_n 0, 1) := dk_42 (dk_at dksX5_crossesHere_6 10 rfl rfl)
theorem dX5_crossesHere_153 : decode cX5_crossesHere 153 = .ok (.getfield 32, 3) := dk_180 0 32 (dk_at dksX5_crossesHere_6 11 rfl rfl)
theorem dX5_crossesHere_156 : decode cX5_crossesHere 156 = .ok (.iconst 1, 1) := dk_4 (dk_at dksX5_crossesHere_6 14 rfl rfl)
theorem dX5_crossesHere_157 : decode cX5_crossesHere 157 = .ok (.iload_n 1, 1) := dk_27 (dk_at dksX5_crossesHere_6 15 rfl rfl)
theorem dX5_crossesHere_158 : decode cX5_crossesHere 158 = .ok (.iastore, 1) := dk_79 (dk_at dksX5_crossesHere_6 16 rfl rfl)
theorem dX5_crossesHere_159 : decode cX5_crossesHere 159 = .ok (.aload_n 0, 1) := dk_42 (dk_at dksX5_crossesHere_6 17 rfl rfl)
theorem dX5_crossesHere_160 : decode cX5_crossesHere 160 = .ok (.invokevirtual 76, 3) := dk_182 0 76 (dk_at dksX5_crossesHere_6 18 rfl rfl)
theorem dX5_crossesHere_163 : decode cX5_crossesHere 163 = .ok (.iload_n 2, 1) := dk_28 (dk_at dksX5_crossesHere_6 21 rfl rfl)
theorem dX5_crossesHere_164 : decode cX5_crossesHere 164 = .ok (.ireturn, 1) := dk_172 (dk_at dksX5_crossesHere_6 22 rfl rfl)
abbrev cX5_notes : ByteArray := prog_15_method_17_code
def yX5_notes : MethodName := ⟨RX5, "notes", "(I)V"⟩
def dkwX5_notes_3 : List UInt8 := [79, 42, 180, 0, 29, 8, 42, 180, 0, 32, 4, 46, 79, 177]
abbrev dktX5_notes_3 : List UInt8 := dkwX5_notes_3 ++ []
def dkwX5_notes_2 : List UInt8 := [180, 0, 29, 8, 3, 79, 167, 0, 31, 27, 16, 7, 160, 0, 25, 42, 180, 0, 29, 7, 92, 46, 4, 96]
abbrev dktX5_notes_2 : List UInt8 := dkwX5_notes_2 ++ dktX5_notes_3
def dkwX5_notes_1 : List UInt8 := [132, 2, 1, 167, 255, 236, 167, 0, 54, 27, 16, 6, 160, 0, 20, 42, 180, 0, 29, 7, 3, 79, 42]
abbrev dktX5_notes_1 : List UInt8 := dkwX5_notes_1 ++ dktX5_notes_2
def dkwX5_notes_0 : List UInt8 := [27, 154, 0, 31, 3, 61, 28, 7, 162, 0, 21, 42, 180, 0, 29, 28, 42, 180, 0, 32, 28, 46, 79]
abbrev dktX5_notes_0 : List UInt8 := dkwX5_notes_0 ++ dktX5_notes_1
theorem dksX5_notes_0 : cX5_notes.data.toList.drop 0 = dktX5_notes_0 := by decide +kernel
theorem dksX5_notes_1 : cX5_notes.data.toList.drop 23 = dktX5_notes_1 := dk_seg dksX5_notes_0 23 rfl rfl
theorem dksX5_notes_2 : cX5_notes.data.toList.drop 46 = dktX5_notes_2 := dk_seg dksX5_notes_1 23 rfl rfl
theorem dksX5_notes_3 : cX5_notes.data.toList.drop 70 = dktX5_notes_3 := dk_seg dksX5_notes_2 24 rfl rfl
theorem dX5_notes_0 : decode cX5_notes 0 = .ok (.iload_n 1, 1) := dk_27 (dk_at dksX5_notes_0 0 rfl rfl)
theorem dX5_notes_1 : decode cX5_notes 1 = .ok (.ifCond .ne 31, 3) := dk_154 0 31 (dk_at dksX5_notes_0 1 rfl rfl)
theorem dX5_notes_4 : decode cX5_notes 4 = .ok (.iconst 0, 1) := dk_3 (dk_at dksX5_notes_0 4 rfl rfl)
theorem dX5_notes_5 : decode cX5_notes 5 = .ok (.istore_n 2, 1) := dk_61 (dk_at dksX5_notes_0 5 rfl rfl)
theorem dX5_notes_6 : decode cX5_notes 6 = .ok (.iload_n 2, 1) := dk_28 (dk_at dksX5_notes_0 6 rfl rfl)
theorem dX5_notes_7 : decode cX5_notes 7 = .ok (.iconst 4, 1) := dk_7 (dk_at dksX5_notes_0 7 rfl rfl)
theorem dX5_notes_8 : decode cX5_notes 8 = .ok (.if_icmp .ge 21, 3) := dk_162 0 21 (dk_at dksX5_notes_0 8 rfl rfl)
theorem dX5_notes_11 : decode cX5_notes 11 = .ok (.aload_n 0, 1) := dk_42 (dk_at dksX5_notes_0 11 rfl rfl)
theorem dX5_notes_12 : decode cX5_notes 12 = .ok (.getfield 29, 3) := dk_180 0 29 (dk_at dksX5_notes_0 12 rfl rfl)
theorem dX5_notes_15 : decode cX5_notes 15 = .ok (.iload_n 2, 1) := dk_28 (dk_at dksX5_notes_0 15 rfl rfl)
theorem dX5_notes_16 : decode cX5_notes 16 = .ok (.aload_n 0, 1) := dk_42 (dk_at dksX5_notes_0 16 rfl rfl)
theorem dX5_notes_17 : decode cX5_notes 17 = .ok (.getfield 32, 3) := dk_180 0 32 (dk_at dksX5_notes_0 17 rfl rfl)
theorem dX5_notes_20 : decode cX5_notes 20 = .ok (.iload_n 2, 1) := dk_28 (dk_at dksX5_notes_0 20 rfl rfl)
theorem dX5_notes_21 : decode cX5_notes 21 = .ok (.iaload, 1) := dk_46 (dk_at dksX5_notes_0 21 rfl rfl)
theorem dX5_notes_22 : decode cX5_notes 22 = .ok (.iastore, 1) := dk_79 (dk_at dksX5_notes_0 22 rfl rfl)
theorem dX5_notes_23 : decode cX5_notes 23 = .ok (.iinc 2 1, 3) := dk_132 2 1 (dk_at dksX5_notes_1 0 rfl rfl)
theorem dX5_notes_26 : decode cX5_notes 26 = .ok (.goto (-20), 3) := dk_167 255 236 (dk_at dksX5_notes_1 3 rfl rfl)
theorem dX5_notes_29 : decode cX5_notes 29 = .ok (.goto 54, 3) := dk_167 0 54 (dk_at dksX5_notes_1 6 rfl rfl)
theorem dX5_notes_32 : decode cX5_notes 32 = .ok (.iload_n 1, 1) := dk_27 (dk_at dksX5_notes_1 9 rfl rfl)
theorem dX5_notes_33 : decode cX5_notes 33 = .ok (.bipush 6, 2) := dk_16 6 (dk_at dksX5_notes_1 10 rfl rfl)
theorem dX5_notes_35 : decode cX5_notes 35 = .ok (.if_icmp .ne 20, 3) := dk_160 0 20 (dk_at dksX5_notes_1 12 rfl rfl)
theorem dX5_notes_38 : decode cX5_notes 38 = .ok (.aload_n 0, 1) := dk_42 (dk_at dksX5_notes_1 15 rfl rfl)
theorem dX5_notes_39 : decode cX5_notes 39 = .ok (.getfield 29, 3) := dk_180 0 29 (dk_at dksX5_notes_1 16 rfl rfl)
theorem dX5_notes_42 : decode cX5_notes 42 = .ok (.iconst 4, 1) := dk_7 (dk_at dksX5_notes_1 19 rfl rfl)
theorem dX5_notes_43 : decode cX5_notes 43 = .ok (.iconst 0, 1) := dk_3 (dk_at dksX5_notes_1 20 rfl rfl)
theorem dX5_notes_44 : decode cX5_notes 44 = .ok (.iastore, 1) := dk_79 (dk_at dksX5_notes_1 21 rfl rfl)
theorem dX5_notes_45 : decode cX5_notes 45 = .ok (.aload_n 0, 1) := dk_42 (dk_at dksX5_notes_1 22 rfl rfl)
theorem dX5_notes_46 : decode cX5_notes 46 = .ok (.getfield 29, 3) := dk_180 0 29 (dk_at dksX5_notes_2 0 rfl rfl)
theorem dX5_notes_49 : decode cX5_notes 49 = .ok (.iconst 5, 1) := dk_8 (dk_at dksX5_notes_2 3 rfl rfl)
theorem dX5_notes_50 : decode cX5_notes 50 = .ok (.iconst 0, 1) := dk_3 (dk_at dksX5_notes_2 4 rfl rfl)
theorem dX5_notes_51 : decode cX5_notes 51 = .ok (.iastore, 1) := dk_79 (dk_at dksX5_notes_2 5 rfl rfl)
theorem dX5_notes_52 : decode cX5_notes 52 = .ok (.goto 31, 3) := dk_167 0 31 (dk_at dksX5_notes_2 6 rfl rfl)
theorem dX5_notes_55 : decode cX5_notes 55 = .ok (.iload_n 1, 1) := dk_27 (dk_at dksX5_notes_2 9 rfl rfl)
theorem dX5_notes_56 : decode cX5_notes 56 = .ok (.bipush 7, 2) := dk_16 7 (dk_at dksX5_notes_2 10 rfl rfl)
theorem dX5_notes_58 : decode cX5_notes 58 = .ok (.if_icmp .ne 25, 3) := dk_160 0 25 (dk_at dksX5_notes_2 12 rfl rfl)
theorem dX5_notes_61 : decode cX5_notes 61 = .ok (.aload_n 0, 1) := dk_42 (dk_at dksX5_notes_2 15 rfl rfl)
theorem dX5_notes_62 : decode cX5_notes 62 = .ok (.getfield 29, 3) := dk_180 0 29 (dk_at dksX5_notes_2 16 rfl rfl)
theorem dX5_notes_65 : decode cX5_notes 65 = .ok (.iconst 4, 1) := dk_7 (dk_at dksX5_notes_2 19 rfl rfl)
theorem dX5_notes_66 : decode cX5_notes 66 = .ok (.dup2, 1) := dk_92 (dk_at dksX5_notes_2 20 rfl rfl)
theorem dX5_notes_67 : decode cX5_notes 67 = .ok (.iaload, 1) := dk_46 (dk_at dksX5_notes_2 21 rfl rfl)
theorem dX5_notes_68 : decode cX5_notes 68 = .ok (.iconst 1, 1) := dk_4 (dk_at dksX5_notes_2 22 rfl rfl)
theorem dX5_notes_69 : decode cX5_notes 69 = .ok (.iadd, 1) := dk_96 (dk_at dksX5_notes_2 23 rfl rfl)
theorem dX5_notes_70 : decode cX5_notes 70 = .ok (.iastore, 1) := dk_79 (dk_at dksX5_notes_3 0 rfl rfl)
theorem dX5_notes_71 : decode cX5_notes 71 = .ok (.aload_n 0, 1) := dk_42 (dk_at dksX5_notes_3 1 rfl rfl)
theorem dX5_notes_72 : decode cX5_notes 72 = .ok (.getfield 29, 3) := dk_180 0 29 (dk_at dksX5_notes_3 2 rfl rfl)
theorem dX5_notes_75 : decode cX5_notes 75 = .ok (.iconst 5, 1) := dk_8 (dk_at dksX5_notes_3 5 rfl rfl)
theorem dX5_notes_76 : decode cX5_notes 76 = .ok (.aload_n 0, 1) := dk_42 (dk_at dksX5_notes_3 6 rfl rfl)
theorem dX5_notes_77 : decode cX5_notes 77 = .ok (.getfield 32, 3) := dk_180 0 32 (dk_at dksX5_notes_3 7 rfl rfl)
theorem dX5_notes_80 : decode cX5_notes 80 = .ok (.iconst 1, 1) := dk_4 (dk_at dksX5_notes_3 10 rfl rfl)
theorem dX5_notes_81 : decode cX5_notes 81 = .ok (.iaload, 1) := dk_46 (dk_at dksX5_notes_3 11 rfl rfl)
theorem dX5_notes_82 : decode cX5_notes 82 = .ok (.iastore, 1) := dk_79 (dk_at dksX5_notes_3 12 rfl rfl)
theorem dX5_notes_83 : decode cX5_notes 83 = .ok (.return_, 1) := dk_177 (dk_at dksX5_notes_3 13 rfl rfl)
abbrev cX5_does : ByteArray := prog_15_method_16_code
def yX5_does : MethodName := ⟨RX5, "does", "(I)V"⟩
def dkwX5_does_10 : List UInt8 := [42, 89, 180, 0, 87, 4, 96, 181, 0, 87, 177]
abbrev dktX5_does_10 : List UInt8 := dkwX5_does_10 ++ []
def dkwX5_does_9 : List UInt8 := [180, 0, 13, 42, 180, 0, 87, 42, 180, 0, 32, 3, 46, 79, 42, 42, 180, 0, 32, 4, 46, 181, 0, 90]
abbrev dktX5_does_9 : List UInt8 := dkwX5_does_9 ++ dktX5_does_10
def dkwX5_does_8 : List UInt8 := [180, 0, 32, 4, 46, 79, 167, 0, 51, 42, 3, 181, 0, 87, 42, 3, 181, 0, 90, 167, 0, 38, 42]
abbrev dktX5_does_8 : List UInt8 := dkwX5_does_8 ++ dktX5_does_9
def dkwX5_does_7 : List UInt8 := [180, 0, 32, 4, 46, 79, 167, 0, 74, 42, 180, 0, 7, 16, 46, 42, 180, 0, 32, 3, 46, 96, 42]
abbrev dktX5_does_7 : List UInt8 := dkwX5_does_7 ++ dktX5_does_8
def dkwX5_does_6 : List UInt8 := [42, 180, 0, 32, 4, 46, 79, 167, 0, 97, 42, 180, 0, 7, 16, 34, 42, 180, 0, 32, 3, 46, 96, 42]
abbrev dktX5_does_6 : List UInt8 := dkwX5_does_6 ++ dktX5_does_7
def dkwX5_does_5 : List UInt8 := [180, 0, 32, 4, 46, 120, 130, 79, 167, 0, 120, 42, 180, 0, 7, 16, 22, 42, 180, 0, 32, 3, 46, 96]
abbrev dktX5_does_5 : List UInt8 := dkwX5_does_5 ++ dktX5_does_6
def dkwX5_does_4 : List UInt8 := [46, 79, 167, 0, 148, 42, 180, 0, 7, 16, 16, 42, 180, 0, 32, 3, 46, 96, 92, 46, 4, 42]
abbrev dktX5_does_4 : List UInt8 := dkwX5_does_4 ++ dktX5_does_5
def dkwX5_does_3 : List UInt8 := [46, 182, 0, 41, 167, 0, 170, 42, 180, 0, 7, 7, 42, 180, 0, 32, 3, 46, 96, 42, 180, 0, 32, 4]
abbrev dktX5_does_3 : List UInt8 := dkwX5_does_3 ++ dktX5_does_4
def dkwX5_does_2 : List UInt8 := [42, 42, 180, 0, 32, 3, 46, 42, 180, 0, 32, 4, 46, 42, 180, 0, 32, 5, 46, 42, 180, 0, 32, 6]
abbrev dktX5_does_2 : List UInt8 := dkwX5_does_2 ++ dktX5_does_3
def dkwX5_does_1 : List UInt8 := [170, 0, 0, 0, 0, 0, 206, 0, 0, 0, 0, 0, 0, 0, 6, 0, 0, 0, 43, 0, 0, 0, 74, 0, 0, 0, 96, 0, 0, 0, 124, 0, 0, 0, 147, 0, 0, 0, 170, 0, 0, 0, 193]
abbrev dktX5_does_1 : List UInt8 := dkwX5_does_1 ++ dktX5_does_2
def dkwX5_does_0 : List UInt8 := [27]
abbrev dktX5_does_0 : List UInt8 := dkwX5_does_0 ++ dktX5_does_1
theorem dksX5_does_0 : cX5_does.data.toList.drop 0 = dktX5_does_0 := by decide +kernel
theorem dksX5_does_1 : cX5_does.data.toList.drop 1 = dktX5_does_1 := dk_seg dksX5_does_0 1 rfl rfl
theorem dksX5_does_2 : cX5_does.data.toList.drop 44 = dktX5_does_2 := dk_seg dksX5_does_1 43 rfl rfl
theorem dksX5_does_3 : cX5_does.data.toList.drop 68 = dktX5_does_3 := dk_seg dksX5_does_2 24 rfl rfl
theorem dksX5_does_4 : cX5_does.data.toList.drop 92 = dktX5_does_4 := dk_seg dksX5_does_3 24 rfl rfl
theorem dksX5_does_5 : cX5_does.data.toList.drop 114 = dktX5_does_5 := dk_seg dksX5_does_4 22 rfl rfl
theorem dksX5_does_6 : cX5_does.data.toList.drop 138 = dktX5_does_6 := dk_seg dksX5_does_5 24 rfl rfl
theorem dksX5_does_7 : cX5_does.data.toList.drop 162 = dktX5_does_7 := dk_seg dksX5_does_6 24 rfl rfl
theorem dksX5_does_8 : cX5_does.data.toList.drop 185 = dktX5_does_8 := dk_seg dksX5_does_7 23 rfl rfl
theorem dksX5_does_9 : cX5_does.data.toList.drop 208 = dktX5_does_9 := dk_seg dksX5_does_8 23 rfl rfl
theorem dksX5_does_10 : cX5_does.data.toList.drop 232 = dktX5_does_10 := dk_seg dksX5_does_9 24 rfl rfl
theorem dX5_does_0 : decode cX5_does 0 = .ok (.iload_n 1, 1) := dk_27 (dk_at dksX5_does_0 0 rfl rfl)
theorem dX5_does_1 : decode cX5_does 1 = .ok (.tableswitch 206 0 6 #[43, 74, 96, 124, 147, 170, 193], 43) := by decide +kernel
theorem dX5_does_44 : decode cX5_does 44 = .ok (.aload_n 0, 1) := dk_42 (dk_at dksX5_does_2 0 rfl rfl)
theorem dX5_does_45 : decode cX5_does 45 = .ok (.aload_n 0, 1) := dk_42 (dk_at dksX5_does_2 1 rfl rfl)
theorem dX5_does_46 : decode cX5_does 46 = .ok (.getfield 32, 3) := dk_180 0 32 (dk_at dksX5_does_2 2 rfl rfl)
theorem dX5_does_49 : decode cX5_does 49 = .ok (.iconst 0, 1) := dk_3 (dk_at dksX5_does_2 5 rfl rfl)
theorem dX5_does_50 : decode cX5_does 50 = .ok (.iaload, 1) := dk_46 (dk_at dksX5_does_2 6 rfl rfl)
theorem dX5_does_51 : decode cX5_does 51 = .ok (.aload_n 0, 1) := dk_42 (dk_at dksX5_does_2 7 rfl rfl)
theorem dX5_does_52 : decode cX5_does 52 = .ok (.getfield 32, 3) := dk_180 0 32 (dk_at dksX5_does_2 8 rfl rfl)
theorem dX5_does_55 : decode cX5_does 55 = .ok (.iconst 1, 1) := dk_4 (dk_at dksX5_does_2 11 rfl rfl)
theorem dX5_does_56 : decode cX5_does 56 = .ok (.iaload, 1) := dk_46 (dk_at dksX5_does_2 12 rfl rfl)
theorem dX5_does_57 : decode cX5_does 57 = .ok (.aload_n 0, 1) := dk_42 (dk_at dksX5_does_2 13 rfl rfl)
theorem dX5_does_58 : decode cX5_does 58 = .ok (.getfield 32, 3) := dk_180 0 32 (dk_at dksX5_does_2 14 rfl rfl)
theorem dX5_does_61 : decode cX5_does 61 = .ok (.iconst 2, 1) := dk_5 (dk_at dksX5_does_2 17 rfl rfl)
theorem dX5_does_62 : decode cX5_does 62 = .ok (.iaload, 1) := dk_46 (dk_at dksX5_does_2 18 rfl rfl)
theorem dX5_does_63 : decode cX5_does 63 = .ok (.aload_n 0, 1) := dk_42 (dk_at dksX5_does_2 19 rfl rfl)
theorem dX5_does_64 : decode cX5_does 64 = .ok (.getfield 32, 3) := dk_180 0 32 (dk_at dksX5_does_2 20 rfl rfl)
theorem dX5_does_67 : decode cX5_does 67 = .ok (.iconst 3, 1) := dk_6 (dk_at dksX5_does_2 23 rfl rfl)
theorem dX5_does_68 : decode cX5_does 68 = .ok (.iaload, 1) := dk_46 (dk_at dksX5_does_3 0 rfl rfl)
theorem dX5_does_69 : decode cX5_does 69 = .ok (.invokevirtual 41, 3) := dk_182 0 41 (dk_at dksX5_does_3 1 rfl rfl)
theorem dX5_does_72 : decode cX5_does 72 = .ok (.goto 170, 3) := dk_167 0 170 (dk_at dksX5_does_3 4 rfl rfl)
theorem dX5_does_75 : decode cX5_does 75 = .ok (.aload_n 0, 1) := dk_42 (dk_at dksX5_does_3 7 rfl rfl)
theorem dX5_does_76 : decode cX5_does 76 = .ok (.getfield 7, 3) := dk_180 0 7 (dk_at dksX5_does_3 8 rfl rfl)
theorem dX5_does_79 : decode cX5_does 79 = .ok (.iconst 4, 1) := dk_7 (dk_at dksX5_does_3 11 rfl rfl)
theorem dX5_does_80 : decode cX5_does 80 = .ok (.aload_n 0, 1) := dk_42 (dk_at dksX5_does_3 12 rfl rfl)
theorem dX5_does_81 : decode cX5_does 81 = .ok (.getfield 32, 3) := dk_180 0 32 (dk_at dksX5_does_3 13 rfl rfl)
theorem dX5_does_84 : decode cX5_does 84 = .ok (.iconst 0, 1) := dk_3 (dk_at dksX5_does_3 16 rfl rfl)
theorem dX5_does_85 : decode cX5_does 85 = .ok (.iaload, 1) := dk_46 (dk_at dksX5_does_3 17 rfl rfl)
theorem dX5_does_86 : decode cX5_does 86 = .ok (.iadd, 1) := dk_96 (dk_at dksX5_does_3 18 rfl rfl)
theorem dX5_does_87 : decode cX5_does 87 = .ok (.aload_n 0, 1) := dk_42 (dk_at dksX5_does_3 19 rfl rfl)
theorem dX5_does_88 : decode cX5_does 88 = .ok (.getfield 32, 3) := dk_180 0 32 (dk_at dksX5_does_3 20 rfl rfl)
theorem dX5_does_91 : decode cX5_does 91 = .ok (.iconst 1, 1) := dk_4 (dk_at dksX5_does_3 23 rfl rfl)
theorem dX5_does_92 : decode cX5_does 92 = .ok (.iaload, 1) := dk_46 (dk_at dksX5_does_4 0 rfl rfl)
theorem dX5_does_93 : decode cX5_does 93 = .ok (.iastore, 1) := dk_79 (dk_at dksX5_does_4 1 rfl rfl)
theorem dX5_does_94 : decode cX5_does 94 = .ok (.goto 148, 3) := dk_167 0 148 (dk_at dksX5_does_4 2 rfl rfl)
theorem dX5_does_97 : decode cX5_does 97 = .ok (.aload_n 0, 1) := dk_42 (dk_at dksX5_does_4 5 rfl rfl)
theorem dX5_does_98 : decode cX5_does 98 = .ok (.getfield 7, 3) := dk_180 0 7 (dk_at dksX5_does_4 6 rfl rfl)
theorem dX5_does_101 : decode cX5_does 101 = .ok (.bipush 16, 2) := dk_16 16 (dk_at dksX5_does_4 9 rfl rfl)
theorem dX5_does_103 : decode cX5_does 103 = .ok (.aload_n 0, 1) := dk_42 (dk_at dksX5_does_4 11 rfl rfl)
theorem dX5_does_104 : decode cX5_does 104 = .ok (.getfield 32, 3) := dk_180 0 32 (dk_at dksX5_does_4 12 rfl rfl)
theorem dX5_does_107 : decode cX5_does 107 = .ok (.iconst 0, 1) := dk_3 (dk_at dksX5_does_4 15 rfl rfl)
theorem dX5_does_108 : decode cX5_does 108 = .ok (.iaload, 1) := dk_46 (dk_at dksX5_does_4 16 rfl rfl)
theorem dX5_does_109 : decode cX5_does 109 = .ok (.iadd, 1) := dk_96 (dk_at dksX5_does_4 17 rfl rfl)
theorem dX5_does_110 : decode cX5_does 110 = .ok (.dup2, 1) := dk_92 (dk_at dksX5_does_4 18 rfl rfl)
theorem dX5_does_111 : decode cX5_does 111 = .ok (.iaload, 1) := dk_46 (dk_at dksX5_does_4 19 rfl rfl)
theorem dX5_does_112 : decode cX5_does 112 = .ok (.iconst 1, 1) := dk_4 (dk_at dksX5_does_4 20 rfl rfl)
theorem dX5_does_113 : decode cX5_does 113 = .ok (.aload_n 0, 1) := dk_42 (dk_at dksX5_does_4 21 rfl rfl)
theorem dX5_does_114 : decode cX5_does 114 = .ok (.getfield 32, 3) := dk_180 0 32 (dk_at dksX5_does_5 0 rfl rfl)
theorem dX5_does_117 : decode cX5_does 117 = .ok (.iconst 1, 1) := dk_4 (dk_at dksX5_does_5 3 rfl rfl)
theorem dX5_does_118 : decode cX5_does 118 = .ok (.iaload, 1) := dk_46 (dk_at dksX5_does_5 4 rfl rfl)
theorem dX5_does_119 : decode cX5_does 119 = .ok (.ishl, 1) := dk_120 (dk_at dksX5_does_5 5 rfl rfl)
theorem dX5_does_120 : decode cX5_does 120 = .ok (.ixor, 1) := dk_130 (dk_at dksX5_does_5 6 rfl rfl)
theorem dX5_does_121 : decode cX5_does 121 = .ok (.iastore, 1) := dk_79 (dk_at dksX5_does_5 7 rfl rfl)
theorem dX5_does_122 : decode cX5_does 122 = .ok (.goto 120, 3) := dk_167 0 120 (dk_at dksX5_does_5 8 rfl rfl)
theorem dX5_does_125 : decode cX5_does 125 = .ok (.aload_n 0, 1) := dk_42 (dk_at dksX5_does_5 11 rfl rfl)
theorem dX5_does_126 : decode cX5_does 126 = .ok (.getfield 7, 3) := dk_180 0 7 (dk_at dksX5_does_5 12 rfl rfl)
theorem dX5_does_129 : decode cX5_does 129 = .ok (.bipush 22, 2) := dk_16 22 (dk_at dksX5_does_5 15 rfl rfl)
theorem dX5_does_131 : decode cX5_does 131 = .ok (.aload_n 0, 1) := dk_42 (dk_at dksX5_does_5 17 rfl rfl)
theorem dX5_does_132 : decode cX5_does 132 = .ok (.getfield 32, 3) := dk_180 0 32 (dk_at dksX5_does_5 18 rfl rfl)
theorem dX5_does_135 : decode cX5_does 135 = .ok (.iconst 0, 1) := dk_3 (dk_at dksX5_does_5 21 rfl rfl)
theorem dX5_does_136 : decode cX5_does 136 = .ok (.iaload, 1) := dk_46 (dk_at dksX5_does_5 22 rfl rfl)
theorem dX5_does_137 : decode cX5_does 137 = .ok (.iadd, 1) := dk_96 (dk_at dksX5_does_5 23 rfl rfl)
theorem dX5_does_138 : decode cX5_does 138 = .ok (.aload_n 0, 1) := dk_42 (dk_at dksX5_does_6 0 rfl rfl)
theorem dX5_does_139 : decode cX5_does 139 = .ok (.getfield 32, 3) := dk_180 0 32 (dk_at dksX5_does_6 1 rfl rfl)
theorem dX5_does_142 : decode cX5_does 142 = .ok (.iconst 1, 1) := dk_4 (dk_at dksX5_does_6 4 rfl rfl)
theorem dX5_does_143 : decode cX5_does 143 = .ok (.iaload, 1) := dk_46 (dk_at dksX5_does_6 5 rfl rfl)
theorem dX5_does_144 : decode cX5_does 144 = .ok (.iastore, 1) := dk_79 (dk_at dksX5_does_6 6 rfl rfl)
theorem dX5_does_145 : decode cX5_does 145 = .ok (.goto 97, 3) := dk_167 0 97 (dk_at dksX5_does_6 7 rfl rfl)
theorem dX5_does_148 : decode cX5_does 148 = .ok (.aload_n 0, 1) := dk_42 (dk_at dksX5_does_6 10 rfl rfl)
theorem dX5_does_149 : decode cX5_does 149 = .ok (.getfield 7, 3) := dk_180 0 7 (dk_at dksX5_does_6 11 rfl rfl)
theorem dX5_does_152 : decode cX5_does 152 = .ok (.bipush 34, 2) := dk_16 34 (dk_at dksX5_does_6 14 rfl rfl)
theorem dX5_does_154 : decode cX5_does 154 = .ok (.aload_n 0, 1) := dk_42 (dk_at dksX5_does_6 16 rfl rfl)
theorem dX5_does_155 : decode cX5_does 155 = .ok (.getfield 32, 3) := dk_180 0 32 (dk_at dksX5_does_6 17 rfl rfl)
theorem dX5_does_158 : decode cX5_does 158 = .ok (.iconst 0, 1) := dk_3 (dk_at dksX5_does_6 20 rfl rfl)
theorem dX5_does_159 : decode cX5_does 159 = .ok (.iaload, 1) := dk_46 (dk_at dksX5_does_6 21 rfl rfl)
theorem dX5_does_160 : decode cX5_does 160 = .ok (.iadd, 1) := dk_96 (dk_at dksX5_does_6 22 rfl rfl)
theorem dX5_does_161 : decode cX5_does 161 = .ok (.aload_n 0, 1) := dk_42 (dk_at dksX5_does_6 23 rfl rfl)
theorem dX5_does_162 : decode cX5_does 162 = .ok (.getfield 32, 3) := dk_180 0 32 (dk_at dksX5_does_7 0 rfl rfl)
theorem dX5_does_165 : decode cX5_does 165 = .ok (.iconst 1, 1) := dk_4 (dk_at dksX5_does_7 3 rfl rfl)
theorem dX5_does_166 : decode cX5_does 166 = .ok (.iaload, 1) := dk_46 (dk_at dksX5_does_7 4 rfl rfl)
theorem dX5_does_167 : decode cX5_does 167 = .ok (.iastore, 1) := dk_79 (dk_at dksX5_does_7 5 rfl rfl)
theorem dX5_does_168 : decode cX5_does 168 = .ok (.goto 74, 3) := dk_167 0 74 (dk_at dksX5_does_7 6 rfl rfl)
theorem dX5_does_171 : decode cX5_does 171 = .ok (.aload_n 0, 1) := dk_42 (dk_at dksX5_does_7 9 rfl rfl)
theorem dX5_does_172 : decode cX5_does 172 = .ok (.getfield 7, 3) := dk_180 0 7 (dk_at dksX5_does_7 10 rfl rfl)
theorem dX5_does_175 : decode cX5_does 175 = .ok (.bipush 46, 2) := dk_16 46 (dk_at dksX5_does_7 13 rfl rfl)
theorem dX5_does_177 : decode cX5_does 177 = .ok (.aload_n 0, 1) := dk_42 (dk_at dksX5_does_7 15 rfl rfl)
theorem dX5_does_178 : decode cX5_does 178 = .ok (.getfield 32, 3) := dk_180 0 32 (dk_at dksX5_does_7 16 rfl rfl)
theorem dX5_does_181 : decode cX5_does 181 = .ok (.iconst 0, 1) := dk_3 (dk_at dksX5_does_7 19 rfl rfl)
theorem dX5_does_182 : decode cX5_does 182 = .ok (.iaload, 1) := dk_46 (dk_at dksX5_does_7 20 rfl rfl)
theorem dX5_does_183 : decode cX5_does 183 = .ok (.iadd, 1) := dk_96 (dk_at dksX5_does_7 21 rfl rfl)
theorem dX5_does_184 : decode cX5_does 184 = .ok (.aload_n 0, 1) := dk_42 (dk_at dksX5_does_7 22 rfl rfl)
theorem dX5_does_185 : decode cX5_does 185 = .ok (.getfield 32, 3) := dk_180 0 32 (dk_at dksX5_does_8 0 rfl rfl)
theorem dX5_does_188 : decode cX5_does 188 = .ok (.iconst 1, 1) := dk_4 (dk_at dksX5_does_8 3 rfl rfl)
theorem dX5_does_189 : decode cX5_does 189 = .ok (.iaload, 1) := dk_46 (dk_at dksX5_does_8 4 rfl rfl)
theorem dX5_does_190 : decode cX5_does 190 = .ok (.iastore, 1) := dk_79 (dk_at dksX5_does_8 5 rfl rfl)
theorem dX5_does_191 : decode cX5_does 191 = .ok (.goto 51, 3) := dk_167 0 51 (dk_at dksX5_does_8 6 rfl rfl)
theorem dX5_does_194 : decode cX5_does 194 = .ok (.aload_n 0, 1) := dk_42 (dk_at dksX5_does_8 9 rfl rfl)
theorem dX5_does_195 : decode cX5_does 195 = .ok (.iconst 0, 1) := dk_3 (dk_at dksX5_does_8 10 rfl rfl)
theorem dX5_does_196 : decode cX5_does 196 = .ok (.putfield 87, 3) := dk_181 0 87 (dk_at dksX5_does_8 11 rfl rfl)
theorem dX5_does_199 : decode cX5_does 199 = .ok (.aload_n 0, 1) := dk_42 (dk_at dksX5_does_8 14 rfl rfl)
theorem dX5_does_200 : decode cX5_does 200 = .ok (.iconst 0, 1) := dk_3 (dk_at dksX5_does_8 15 rfl rfl)
theorem dX5_does_201 : decode cX5_does 201 = .ok (.putfield 90, 3) := dk_181 0 90 (dk_at dksX5_does_8 16 rfl rfl)
theorem dX5_does_204 : decode cX5_does 204 = .ok (.goto 38, 3) := dk_167 0 38 (dk_at dksX5_does_8 19 rfl rfl)
theorem dX5_does_207 : decode cX5_does 207 = .ok (.aload_n 0, 1) := dk_42 (dk_at dksX5_does_8 22 rfl rfl)
theorem dX5_does_208 : decode cX5_does 208 = .ok (.getfield 13, 3) := dk_180 0 13 (dk_at dksX5_does_9 0 rfl rfl)
theorem dX5_does_211 : decode cX5_does 211 = .ok (.aload_n 0, 1) := dk_42 (dk_at dksX5_does_9 3 rfl rfl)
theorem dX5_does_212 : decode cX5_does 212 = .ok (.getfield 87, 3) := dk_180 0 87 (dk_at dksX5_does_9 4 rfl rfl)
theorem dX5_does_215 : decode cX5_does 215 = .ok (.aload_n 0, 1) := dk_42 (dk_at dksX5_does_9 7 rfl rfl)
theorem dX5_does_216 : decode cX5_does 216 = .ok (.getfield 32, 3) := dk_180 0 32 (dk_at dksX5_does_9 8 rfl rfl)
theorem dX5_does_219 : decode cX5_does 219 = .ok (.iconst 0, 1) := dk_3 (dk_at dksX5_does_9 11 rfl rfl)
theorem dX5_does_220 : decode cX5_does 220 = .ok (.iaload, 1) := dk_46 (dk_at dksX5_does_9 12 rfl rfl)
theorem dX5_does_221 : decode cX5_does 221 = .ok (.iastore, 1) := dk_79 (dk_at dksX5_does_9 13 rfl rfl)
theorem dX5_does_222 : decode cX5_does 222 = .ok (.aload_n 0, 1) := dk_42 (dk_at dksX5_does_9 14 rfl rfl)
theorem dX5_does_223 : decode cX5_does 223 = .ok (.aload_n 0, 1) := dk_42 (dk_at dksX5_does_9 15 rfl rfl)
theorem dX5_does_224 : decode cX5_does 224 = .ok (.getfield 32, 3) := dk_180 0 32 (dk_at dksX5_does_9 16 rfl rfl)
theorem dX5_does_227 : decode cX5_does 227 = .ok (.iconst 1, 1) := dk_4 (dk_at dksX5_does_9 19 rfl rfl)
theorem dX5_does_228 : decode cX5_does 228 = .ok (.iaload, 1) := dk_46 (dk_at dksX5_does_9 20 rfl rfl)
theorem dX5_does_229 : decode cX5_does 229 = .ok (.putfield 90, 3) := dk_181 0 90 (dk_at dksX5_does_9 21 rfl rfl)
theorem dX5_does_232 : decode cX5_does 232 = .ok (.aload_n 0, 1) := dk_42 (dk_at dksX5_does_10 0 rfl rfl)
theorem dX5_does_233 : decode cX5_does 233 = .ok (.dup, 1) := dk_89 (dk_at dksX5_does_10 1 rfl rfl)
theorem dX5_does_234 : decode cX5_does 234 = .ok (.getfield 87, 3) := dk_180 0 87 (dk_at dksX5_does_10 2 rfl rfl)
theorem dX5_does_237 : decode cX5_does 237 = .ok (.iconst 1, 1) := dk_4 (dk_at dksX5_does_10 5 rfl rfl)
theorem dX5_does_238 : decode cX5_does 238 = .ok (.iadd, 1) := dk_96 (dk_at dksX5_does_10 6 rfl rfl)
theorem dX5_does_239 : decode cX5_does 239 = .ok (.putfield 87, 3) := dk_181 0 87 (dk_at dksX5_does_10 7 rfl rfl)
theorem dX5_does_242 : decode cX5_does 242 = .ok (.return_, 1) := dk_177 (dk_at dksX5_does_10 10 rfl rfl)
abbrev cX5_draft : ByteArray := prog_15_method_21_code
def yX5_draft : MethodName := ⟨RX5, "draft", "()I"⟩
def dkwX5_draft_2 : List UInt8 := [42, 180, 0, 23, 27, 2, 79, 132, 1, 1, 167, 255, 241, 42, 180, 0, 111, 172]
abbrev dktX5_draft_2 : List UInt8 := dkwX5_draft_2 ++ []
def dkwX5_draft_1 : List UInt8 := [181, 0, 121, 42, 180, 0, 16, 3, 3, 84, 42, 180, 0, 16, 4, 3, 84, 3, 60, 27, 6, 162, 0, 16]
abbrev dktX5_draft_1 : List UInt8 := dkwX5_draft_1 ++ dktX5_draft_2
def dkwX5_draft_0 : List UInt8 := [42, 3, 182, 0, 117, 154, 0, 6, 16, 252, 172, 42, 4, 182, 0, 117, 87, 42, 3, 181, 0, 51, 42, 3]
abbrev dktX5_draft_0 : List UInt8 := dkwX5_draft_0 ++ dktX5_draft_1
theorem dksX5_draft_0 : cX5_draft.data.toList.drop 0 = dktX5_draft_0 := by decide +kernel
theorem dksX5_draft_1 : cX5_draft.data.toList.drop 24 = dktX5_draft_1 := dk_seg dksX5_draft_0 24 rfl rfl
theorem dksX5_draft_2 : cX5_draft.data.toList.drop 48 = dktX5_draft_2 := dk_seg dksX5_draft_1 24 rfl rfl
theorem dX5_draft_0 : decode cX5_draft 0 = .ok (.aload_n 0, 1) := dk_42 (dk_at dksX5_draft_0 0 rfl rfl)
theorem dX5_draft_1 : decode cX5_draft 1 = .ok (.iconst 0, 1) := dk_3 (dk_at dksX5_draft_0 1 rfl rfl)
theorem dX5_draft_2 : decode cX5_draft 2 = .ok (.invokevirtual 117, 3) := dk_182 0 117 (dk_at dksX5_draft_0 2 rfl rfl)
theorem dX5_draft_5 : decode cX5_draft 5 = .ok (.ifCond .ne 6, 3) := dk_154 0 6 (dk_at dksX5_draft_0 5 rfl rfl)
theorem dX5_draft_8 : decode cX5_draft 8 = .ok (.bipush (-4), 2) := dk_16 252 (dk_at dksX5_draft_0 8 rfl rfl)
theorem dX5_draft_10 : decode cX5_draft 10 = .ok (.ireturn, 1) := dk_172 (dk_at dksX5_draft_0 10 rfl rfl)
theorem dX5_draft_11 : decode cX5_draft 11 = .ok (.aload_n 0, 1) := dk_42 (dk_at dksX5_draft_0 11 rfl rfl)
theorem dX5_draft_12 : decode cX5_draft 12 = .ok (.iconst 1, 1) := dk_4 (dk_at dksX5_draft_0 12 rfl rfl)
theorem dX5_draft_13 : decode cX5_draft 13 = .ok (.invokevirtual 117, 3) := dk_182 0 117 (dk_at dksX5_draft_0 13 rfl rfl)
theorem dX5_draft_16 : decode cX5_draft 16 = .ok (.pop, 1) := dk_87 (dk_at dksX5_draft_0 16 rfl rfl)
theorem dX5_draft_17 : decode cX5_draft 17 = .ok (.aload_n 0, 1) := dk_42 (dk_at dksX5_draft_0 17 rfl rfl)
theorem dX5_draft_18 : decode cX5_draft 18 = .ok (.iconst 0, 1) := dk_3 (dk_at dksX5_draft_0 18 rfl rfl)
theorem dX5_draft_19 : decode cX5_draft 19 = .ok (.putfield 51, 3) := dk_181 0 51 (dk_at dksX5_draft_0 19 rfl rfl)
theorem dX5_draft_22 : decode cX5_draft 22 = .ok (.aload_n 0, 1) := dk_42 (dk_at dksX5_draft_0 22 rfl rfl)
theorem dX5_draft_23 : decode cX5_draft 23 = .ok (.iconst 0, 1) := dk_3 (dk_at dksX5_draft_0 23 rfl rfl)
theorem dX5_draft_24 : decode cX5_draft 24 = .ok (.putfield 121, 3) := dk_181 0 121 (dk_at dksX5_draft_1 0 rfl rfl)
theorem dX5_draft_27 : decode cX5_draft 27 = .ok (.aload_n 0, 1) := dk_42 (dk_at dksX5_draft_1 3 rfl rfl)
theorem dX5_draft_28 : decode cX5_draft 28 = .ok (.getfield 16, 3) := dk_180 0 16 (dk_at dksX5_draft_1 4 rfl rfl)
theorem dX5_draft_31 : decode cX5_draft 31 = .ok (.iconst 0, 1) := dk_3 (dk_at dksX5_draft_1 7 rfl rfl)
theorem dX5_draft_32 : decode cX5_draft 32 = .ok (.iconst 0, 1) := dk_3 (dk_at dksX5_draft_1 8 rfl rfl)
theorem dX5_draft_33 : decode cX5_draft 33 = .ok (.bastore, 1) := dk_84 (dk_at dksX5_draft_1 9 rfl rfl)
theorem dX5_draft_34 : decode cX5_draft 34 = .ok (.aload_n 0, 1) := dk_42 (dk_at dksX5_draft_1 10 rfl rfl)
theorem dX5_draft_35 : decode cX5_draft 35 = .ok (.getfield 16, 3) := dk_180 0 16 (dk_at dksX5_draft_1 11 rfl rfl)
theorem dX5_draft_38 : decode cX5_draft 38 = .ok (.iconst 1, 1) := dk_4 (dk_at dksX5_draft_1 14 rfl rfl)
theorem dX5_draft_39 : decode cX5_draft 39 = .ok (.iconst 0, 1) := dk_3 (dk_at dksX5_draft_1 15 rfl rfl)
theorem dX5_draft_40 : decode cX5_draft 40 = .ok (.bastore, 1) := dk_84 (dk_at dksX5_draft_1 16 rfl rfl)
theorem dX5_draft_41 : decode cX5_draft 41 = .ok (.iconst 0, 1) := dk_3 (dk_at dksX5_draft_1 17 rfl rfl)
theorem dX5_draft_42 : decode cX5_draft 42 = .ok (.istore_n 1, 1) := dk_60 (dk_at dksX5_draft_1 18 rfl rfl)
theorem dX5_draft_43 : decode cX5_draft 43 = .ok (.iload_n 1, 1) := dk_27 (dk_at dksX5_draft_1 19 rfl rfl)
theorem dX5_draft_44 : decode cX5_draft 44 = .ok (.iconst 3, 1) := dk_6 (dk_at dksX5_draft_1 20 rfl rfl)
theorem dX5_draft_45 : decode cX5_draft 45 = .ok (.if_icmp .ge 16, 3) := dk_162 0 16 (dk_at dksX5_draft_1 21 rfl rfl)
theorem dX5_draft_48 : decode cX5_draft 48 = .ok (.aload_n 0, 1) := dk_42 (dk_at dksX5_draft_2 0 rfl rfl)
theorem dX5_draft_49 : decode cX5_draft 49 = .ok (.getfield 23, 3) := dk_180 0 23 (dk_at dksX5_draft_2 1 rfl rfl)
theorem dX5_draft_52 : decode cX5_draft 52 = .ok (.iload_n 1, 1) := dk_27 (dk_at dksX5_draft_2 4 rfl rfl)
theorem dX5_draft_53 : decode cX5_draft 53 = .ok (.iconst (-1), 1) := dk_2 (dk_at dksX5_draft_2 5 rfl rfl)
theorem dX5_draft_54 : decode cX5_draft 54 = .ok (.iastore, 1) := dk_79 (dk_at dksX5_draft_2 6 rfl rfl)
theorem dX5_draft_55 : decode cX5_draft 55 = .ok (.iinc 1 1, 3) := dk_132 1 1 (dk_at dksX5_draft_2 7 rfl rfl)
theorem dX5_draft_58 : decode cX5_draft 58 = .ok (.goto (-15), 3) := dk_167 255 241 (dk_at dksX5_draft_2 10 rfl rfl)
theorem dX5_draft_61 : decode cX5_draft 61 = .ok (.aload_n 0, 1) := dk_42 (dk_at dksX5_draft_2 13 rfl rfl)
theorem dX5_draft_62 : decode cX5_draft 62 = .ok (.getfield 111, 3) := dk_180 0 111 (dk_at dksX5_draft_2 14 rfl rfl)
theorem dX5_draft_65 : decode cX5_draft 65 = .ok (.ireturn, 1) := dk_172 (dk_at dksX5_draft_2 17 rfl rfl)
abbrev cX5_end : ByteArray := prog_15_method_30_code
def yX5_end : MethodName := ⟨RX5, "end", "(II)I"⟩
def dkwX5_end_4 : List UInt8 := [184, 0, 138, 172, 42, 27, 182, 0, 134, 172, 16, 253, 172]
abbrev dktX5_end_4 : List UInt8 := dkwX5_end_4 ++ []
def dkwX5_end_3 : List UInt8 := [42, 180, 0, 7, 4, 46, 4, 184, 0, 138, 172, 42, 27, 182, 0, 134, 42, 180, 0, 7, 4, 46, 3]
abbrev dktX5_end_3 : List UInt8 := dkwX5_end_3 ++ dktX5_end_4
def dkwX5_end_2 : List UInt8 := [42, 180, 0, 7, 7, 27, 96, 46, 172, 42, 180, 0, 7, 16, 34, 27, 96, 46, 172, 42, 27, 182, 0, 134]
abbrev dktX5_end_2 : List UInt8 := dkwX5_end_2 ++ dktX5_end_3
def dkwX5_end_1 : List UInt8 := [170, 0, 0, 0, 0, 0, 0, 93, 0, 0, 0, 0, 0, 0, 0, 4, 0, 0, 0, 36, 0, 0, 0, 45, 0, 0, 0, 55, 0, 0, 0, 71, 0, 0, 0, 87]
abbrev dktX5_end_1 : List UInt8 := dkwX5_end_1 ++ dktX5_end_2
def dkwX5_end_0 : List UInt8 := [42, 27, 182, 0, 131, 154, 0, 6, 16, 254, 172, 28]
abbrev dktX5_end_0 : List UInt8 := dkwX5_end_0 ++ dktX5_end_1
theorem dksX5_end_0 : cX5_end.data.toList.drop 0 = dktX5_end_0 := by decide +kernel
theorem dksX5_end_1 : cX5_end.data.toList.drop 12 = dktX5_end_1 := dk_seg dksX5_end_0 12 rfl rfl
theorem dksX5_end_2 : cX5_end.data.toList.drop 48 = dktX5_end_2 := dk_seg dksX5_end_1 36 rfl rfl
theorem dksX5_end_3 : cX5_end.data.toList.drop 72 = dktX5_end_3 := dk_seg dksX5_end_2 24 rfl rfl
theorem dksX5_end_4 : cX5_end.data.toList.drop 95 = dktX5_end_4 := dk_seg dksX5_end_3 23 rfl rfl
theorem dX5_end_0 : decode cX5_end 0 = .ok (.aload_n 0, 1) := dk_42 (dk_at dksX5_end_0 0 rfl rfl)
theorem dX5_end_1 : decode cX5_end 1 = .ok (.iload_n 1, 1) := dk_27 (dk_at dksX5_end_0 1 rfl rfl)
theorem dX5_end_2 : decode cX5_end 2 = .ok (.invokevirtual 131, 3) := dk_182 0 131 (dk_at dksX5_end_0 2 rfl rfl)
theorem dX5_end_5 : decode cX5_end 5 = .ok (.ifCond .ne 6, 3) := dk_154 0 6 (dk_at dksX5_end_0 5 rfl rfl)
theorem dX5_end_8 : decode cX5_end 8 = .ok (.bipush (-2), 2) := dk_16 254 (dk_at dksX5_end_0 8 rfl rfl)
theorem dX5_end_10 : decode cX5_end 10 = .ok (.ireturn, 1) := dk_172 (dk_at dksX5_end_0 10 rfl rfl)
theorem dX5_end_11 : decode cX5_end 11 = .ok (.iload_n 2, 1) := dk_28 (dk_at dksX5_end_0 11 rfl rfl)
theorem dX5_end_12 : decode cX5_end 12 = .ok (.tableswitch 93 0 4 #[36, 45, 55, 71, 87], 36) := by decide +kernel
theorem dX5_end_48 : decode cX5_end 48 = .ok (.aload_n 0, 1) := dk_42 (dk_at dksX5_end_2 0 rfl rfl)
theorem dX5_end_49 : decode cX5_end 49 = .ok (.getfield 7, 3) := dk_180 0 7 (dk_at dksX5_end_2 1 rfl rfl)
theorem dX5_end_52 : decode cX5_end 52 = .ok (.iconst 4, 1) := dk_7 (dk_at dksX5_end_2 4 rfl rfl)
theorem dX5_end_53 : decode cX5_end 53 = .ok (.iload_n 1, 1) := dk_27 (dk_at dksX5_end_2 5 rfl rfl)
theorem dX5_end_54 : decode cX5_end 54 = .ok (.iadd, 1) := dk_96 (dk_at dksX5_end_2 6 rfl rfl)
theorem dX5_end_55 : decode cX5_end 55 = .ok (.iaload, 1) := dk_46 (dk_at dksX5_end_2 7 rfl rfl)
theorem dX5_end_56 : decode cX5_end 56 = .ok (.ireturn, 1) := dk_172 (dk_at dksX5_end_2 8 rfl rfl)
theorem dX5_end_57 : decode cX5_end 57 = .ok (.aload_n 0, 1) := dk_42 (dk_at dksX5_end_2 9 rfl rfl)
theorem dX5_end_58 : decode cX5_end 58 = .ok (.getfield 7, 3) := dk_180 0 7 (dk_at dksX5_end_2 10 rfl rfl)
theorem dX5_end_61 : decode cX5_end 61 = .ok (.bipush 34, 2) := dk_16 34 (dk_at dksX5_end_2 13 rfl rfl)
theorem dX5_end_63 : decode cX5_end 63 = .ok (.iload_n 1, 1) := dk_27 (dk_at dksX5_end_2 15 rfl rfl)
theorem dX5_end_64 : decode cX5_end 64 = .ok (.iadd, 1) := dk_96 (dk_at dksX5_end_2 16 rfl rfl)
theorem dX5_end_65 : decode cX5_end 65 = .ok (.iaload, 1) := dk_46 (dk_at dksX5_end_2 17 rfl rfl)
theorem dX5_end_66 : decode cX5_end 66 = .ok (.ireturn, 1) := dk_172 (dk_at dksX5_end_2 18 rfl rfl)
theorem dX5_end_67 : decode cX5_end 67 = .ok (.aload_n 0, 1) := dk_42 (dk_at dksX5_end_2 19 rfl rfl)
theorem dX5_end_68 : decode cX5_end 68 = .ok (.iload_n 1, 1) := dk_27 (dk_at dksX5_end_2 20 rfl rfl)
theorem dX5_end_69 : decode cX5_end 69 = .ok (.invokevirtual 134, 3) := dk_182 0 134 (dk_at dksX5_end_2 21 rfl rfl)
theorem dX5_end_72 : decode cX5_end 72 = .ok (.aload_n 0, 1) := dk_42 (dk_at dksX5_end_3 0 rfl rfl)
theorem dX5_end_73 : decode cX5_end 73 = .ok (.getfield 7, 3) := dk_180 0 7 (dk_at dksX5_end_3 1 rfl rfl)
theorem dX5_end_76 : decode cX5_end 76 = .ok (.iconst 1, 1) := dk_4 (dk_at dksX5_end_3 4 rfl rfl)
theorem dX5_end_77 : decode cX5_end 77 = .ok (.iaload, 1) := dk_46 (dk_at dksX5_end_3 5 rfl rfl)
theorem dX5_end_78 : decode cX5_end 78 = .ok (.iconst 1, 1) := dk_4 (dk_at dksX5_end_3 6 rfl rfl)
theorem dX5_end_79 : decode cX5_end 79 = .ok (.invokestatic 138, 3) := dk_184 0 138 (dk_at dksX5_end_3 7 rfl rfl)
theorem dX5_end_82 : decode cX5_end 82 = .ok (.ireturn, 1) := dk_172 (dk_at dksX5_end_3 10 rfl rfl)
theorem dX5_end_83 : decode cX5_end 83 = .ok (.aload_n 0, 1) := dk_42 (dk_at dksX5_end_3 11 rfl rfl)
theorem dX5_end_84 : decode cX5_end 84 = .ok (.iload_n 1, 1) := dk_27 (dk_at dksX5_end_3 12 rfl rfl)
theorem dX5_end_85 : decode cX5_end 85 = .ok (.invokevirtual 134, 3) := dk_182 0 134 (dk_at dksX5_end_3 13 rfl rfl)
theorem dX5_end_88 : decode cX5_end 88 = .ok (.aload_n 0, 1) := dk_42 (dk_at dksX5_end_3 16 rfl rfl)
theorem dX5_end_89 : decode cX5_end 89 = .ok (.getfield 7, 3) := dk_180 0 7 (dk_at dksX5_end_3 17 rfl rfl)
theorem dX5_end_92 : decode cX5_end 92 = .ok (.iconst 1, 1) := dk_4 (dk_at dksX5_end_3 20 rfl rfl)
theorem dX5_end_93 : decode cX5_end 93 = .ok (.iaload, 1) := dk_46 (dk_at dksX5_end_3 21 rfl rfl)
theorem dX5_end_94 : decode cX5_end 94 = .ok (.iconst 0, 1) := dk_3 (dk_at dksX5_end_3 22 rfl rfl)
theorem dX5_end_95 : decode cX5_end 95 = .ok (.invokestatic 138, 3) := dk_184 0 138 (dk_at dksX5_end_4 0 rfl rfl)
theorem dX5_end_98 : decode cX5_end 98 = .ok (.ireturn, 1) := dk_172 (dk_at dksX5_end_4 3 rfl rfl)
theorem dX5_end_99 : decode cX5_end 99 = .ok (.aload_n 0, 1) := dk_42 (dk_at dksX5_end_4 4 rfl rfl)
theorem dX5_end_100 : decode cX5_end 100 = .ok (.iload_n 1, 1) := dk_27 (dk_at dksX5_end_4 5 rfl rfl)
theorem dX5_end_101 : decode cX5_end 101 = .ok (.invokevirtual 134, 3) := dk_182 0 134 (dk_at dksX5_end_4 6 rfl rfl)
theorem dX5_end_104 : decode cX5_end 104 = .ok (.ireturn, 1) := dk_172 (dk_at dksX5_end_4 9 rfl rfl)
theorem dX5_end_105 : decode cX5_end 105 = .ok (.bipush (-3), 2) := dk_16 253 (dk_at dksX5_end_4 10 rfl rfl)
theorem dX5_end_107 : decode cX5_end 107 = .ok (.ireturn, 1) := dk_172 (dk_at dksX5_end_4 12 rfl rfl)
abbrev cX5_isEnd : ByteArray := prog_15_method_22_code
def yX5_isEnd : MethodName := ⟨RX5, "isEnd", "(I)Z"⟩
def dkwX5_isEnd_0 : List UInt8 := [27, 133, 9, 42, 180, 0, 7, 3, 46, 4, 100, 133, 184, 0, 47, 172]
abbrev dktX5_isEnd_0 : List UInt8 := dkwX5_isEnd_0 ++ []
theorem dksX5_isEnd_0 : cX5_isEnd.data.toList.drop 0 = dktX5_isEnd_0 := by decide +kernel
theorem dX5_isEnd_0 : decode cX5_isEnd 0 = .ok (.iload_n 1, 1) := dk_27 (dk_at dksX5_isEnd_0 0 rfl rfl)
theorem dX5_isEnd_1 : decode cX5_isEnd 1 = .ok (.i2l, 1) := dk_133 (dk_at dksX5_isEnd_0 1 rfl rfl)
theorem dX5_isEnd_2 : decode cX5_isEnd 2 = .ok (.lconst 0, 1) := dk_9 (dk_at dksX5_isEnd_0 2 rfl rfl)
theorem dX5_isEnd_3 : decode cX5_isEnd 3 = .ok (.aload_n 0, 1) := dk_42 (dk_at dksX5_isEnd_0 3 rfl rfl)
theorem dX5_isEnd_4 : decode cX5_isEnd 4 = .ok (.getfield 7, 3) := dk_180 0 7 (dk_at dksX5_isEnd_0 4 rfl rfl)
theorem dX5_isEnd_7 : decode cX5_isEnd 7 = .ok (.iconst 0, 1) := dk_3 (dk_at dksX5_isEnd_0 7 rfl rfl)
theorem dX5_isEnd_8 : decode cX5_isEnd 8 = .ok (.iaload, 1) := dk_46 (dk_at dksX5_isEnd_0 8 rfl rfl)
theorem dX5_isEnd_9 : decode cX5_isEnd 9 = .ok (.iconst 1, 1) := dk_4 (dk_at dksX5_isEnd_0 9 rfl rfl)
theorem dX5_isEnd_10 : decode cX5_isEnd 10 = .ok (.isub, 1) := dk_100 (dk_at dksX5_isEnd_0 10 rfl rfl)
theorem dX5_isEnd_11 : decode cX5_isEnd 11 = .ok (.i2l, 1) := dk_133 (dk_at dksX5_isEnd_0 11 rfl rfl)
theorem dX5_isEnd_12 : decode cX5_isEnd 12 = .ok (.invokestatic 47, 3) := dk_184 0 47 (dk_at dksX5_isEnd_0 12 rfl rfl)
theorem dX5_isEnd_15 : decode cX5_isEnd 15 = .ok (.ireturn, 1) := dk_172 (dk_at dksX5_isEnd_0 15 rfl rfl)
abbrev cX5_upEnd : ByteArray := prog_15_method_27_code
def yX5_upEnd : MethodName := ⟨RX5, "upEnd", "(I)I"⟩
def dkwX5_upEnd_1 : List UInt8 := [4, 29, 120, 167, 0, 4, 3, 128, 61, 132, 3, 1, 167, 255, 224, 28, 172]
abbrev dktX5_upEnd_1 : List UInt8 := dkwX5_upEnd_1 ++ []
def dkwX5_upEnd_0 : List UInt8 := [3, 61, 3, 62, 29, 42, 180, 0, 7, 4, 46, 162, 0, 28, 28, 42, 29, 27, 182, 0, 128, 153, 0, 9]
abbrev dktX5_upEnd_0 : List UInt8 := dkwX5_upEnd_0 ++ dktX5_upEnd_1
theorem dksX5_upEnd_0 : cX5_upEnd.data.toList.drop 0 = dktX5_upEnd_0 := by decide +kernel
theorem dksX5_upEnd_1 : cX5_upEnd.data.toList.drop 24 = dktX5_upEnd_1 := dk_seg dksX5_upEnd_0 24 rfl rfl
theorem dX5_upEnd_0 : decode cX5_upEnd 0 = .ok (.iconst 0, 1) := dk_3 (dk_at dksX5_upEnd_0 0 rfl rfl)
theorem dX5_upEnd_1 : decode cX5_upEnd 1 = .ok (.istore_n 2, 1) := dk_61 (dk_at dksX5_upEnd_0 1 rfl rfl)
theorem dX5_upEnd_2 : decode cX5_upEnd 2 = .ok (.iconst 0, 1) := dk_3 (dk_at dksX5_upEnd_0 2 rfl rfl)
theorem dX5_upEnd_3 : decode cX5_upEnd 3 = .ok (.istore_n 3, 1) := dk_62 (dk_at dksX5_upEnd_0 3 rfl rfl)
theorem dX5_upEnd_4 : decode cX5_upEnd 4 = .ok (.iload_n 3, 1) := dk_29 (dk_at dksX5_upEnd_0 4 rfl rfl)
theorem dX5_upEnd_5 : decode cX5_upEnd 5 = .ok (.aload_n 0, 1) := dk_42 (dk_at dksX5_upEnd_0 5 rfl rfl)
theorem dX5_upEnd_6 : decode cX5_upEnd 6 = .ok (.getfield 7, 3) := dk_180 0 7 (dk_at dksX5_upEnd_0 6 rfl rfl)
theorem dX5_upEnd_9 : decode cX5_upEnd 9 = .ok (.iconst 1, 1) := dk_4 (dk_at dksX5_upEnd_0 9 rfl rfl)
theorem dX5_upEnd_10 : decode cX5_upEnd 10 = .ok (.iaload, 1) := dk_46 (dk_at dksX5_upEnd_0 10 rfl rfl)
theorem dX5_upEnd_11 : decode cX5_upEnd 11 = .ok (.if_icmp .ge 28, 3) := dk_162 0 28 (dk_at dksX5_upEnd_0 11 rfl rfl)
theorem dX5_upEnd_14 : decode cX5_upEnd 14 = .ok (.iload_n 2, 1) := dk_28 (dk_at dksX5_upEnd_0 14 rfl rfl)
theorem dX5_upEnd_15 : decode cX5_upEnd 15 = .ok (.aload_n 0, 1) := dk_42 (dk_at dksX5_upEnd_0 15 rfl rfl)
theorem dX5_upEnd_16 : decode cX5_upEnd 16 = .ok (.iload_n 3, 1) := dk_29 (dk_at dksX5_upEnd_0 16 rfl rfl)
theorem dX5_upEnd_17 : decode cX5_upEnd 17 = .ok (.iload_n 1, 1) := dk_27 (dk_at dksX5_upEnd_0 17 rfl rfl)
theorem dX5_upEnd_18 : decode cX5_upEnd 18 = .ok (.invokevirtual 128, 3) := dk_182 0 128 (dk_at dksX5_upEnd_0 18 rfl rfl)
theorem dX5_upEnd_21 : decode cX5_upEnd 21 = .ok (.ifCond .eq 9, 3) := dk_153 0 9 (dk_at dksX5_upEnd_0 21 rfl rfl)
theorem dX5_upEnd_24 : decode cX5_upEnd 24 = .ok (.iconst 1, 1) := dk_4 (dk_at dksX5_upEnd_1 0 rfl rfl)
theorem dX5_upEnd_25 : decode cX5_upEnd 25 = .ok (.iload_n 3, 1) := dk_29 (dk_at dksX5_upEnd_1 1 rfl rfl)
theorem dX5_upEnd_26 : decode cX5_upEnd 26 = .ok (.ishl, 1) := dk_120 (dk_at dksX5_upEnd_1 2 rfl rfl)
theorem dX5_upEnd_27 : decode cX5_upEnd 27 = .ok (.goto 4, 3) := dk_167 0 4 (dk_at dksX5_upEnd_1 3 rfl rfl)
theorem dX5_upEnd_30 : decode cX5_upEnd 30 = .ok (.iconst 0, 1) := dk_3 (dk_at dksX5_upEnd_1 6 rfl rfl)
theorem dX5_upEnd_31 : decode cX5_upEnd 31 = .ok (.ior, 1) := dk_128 (dk_at dksX5_upEnd_1 7 rfl rfl)
theorem dX5_upEnd_32 : decode cX5_upEnd 32 = .ok (.istore_n 2, 1) := dk_61 (dk_at dksX5_upEnd_1 8 rfl rfl)
theorem dX5_upEnd_33 : decode cX5_upEnd 33 = .ok (.iinc 3 1, 3) := dk_132 3 1 (dk_at dksX5_upEnd_1 9 rfl rfl)
theorem dX5_upEnd_36 : decode cX5_upEnd 36 = .ok (.goto (-32), 3) := dk_167 255 224 (dk_at dksX5_upEnd_1 12 rfl rfl)
theorem dX5_upEnd_39 : decode cX5_upEnd 39 = .ok (.iload_n 2, 1) := dk_28 (dk_at dksX5_upEnd_1 15 rfl rfl)
theorem dX5_upEnd_40 : decode cX5_upEnd 40 = .ok (.ireturn, 1) := dk_172 (dk_at dksX5_upEnd_1 16 rfl rfl)
abbrev cX5_isUp : ByteArray := prog_15_method_26_code
def yX5_isUp : MethodName := ⟨RX5, "isUp", "(II)Z"⟩
def dkwX5_isUp_1 : List UInt8 := [46, 184, 0, 124, 172]
abbrev dktX5_isUp_1 : List UInt8 := dkwX5_isUp_1 ++ []
def dkwX5_isUp_0 : List UInt8 := [42, 180, 0, 7, 16, 16, 42, 180, 0, 7, 16, 22, 27, 96, 46, 96, 46, 42, 180, 0, 7, 7, 28, 96]
abbrev dktX5_isUp_0 : List UInt8 := dkwX5_isUp_0 ++ dktX5_isUp_1
theorem dksX5_isUp_0 : cX5_isUp.data.toList.drop 0 = dktX5_isUp_0 := by decide +kernel
theorem dksX5_isUp_1 : cX5_isUp.data.toList.drop 24 = dktX5_isUp_1 := dk_seg dksX5_isUp_0 24 rfl rfl
theorem dX5_isUp_0 : decode cX5_isUp 0 = .ok (.aload_n 0, 1) := dk_42 (dk_at dksX5_isUp_0 0 rfl rfl)
theorem dX5_isUp_1 : decode cX5_isUp 1 = .ok (.getfield 7, 3) := dk_180 0 7 (dk_at dksX5_isUp_0 1 rfl rfl)
theorem dX5_isUp_4 : decode cX5_isUp 4 = .ok (.bipush 16, 2) := dk_16 16 (dk_at dksX5_isUp_0 4 rfl rfl)
theorem dX5_isUp_6 : decode cX5_isUp 6 = .ok (.aload_n 0, 1) := dk_42 (dk_at dksX5_isUp_0 6 rfl rfl)
theorem dX5_isUp_7 : decode cX5_isUp 7 = .ok (.getfield 7, 3) := dk_180 0 7 (dk_at dksX5_isUp_0 7 rfl rfl)
theorem dX5_isUp_10 : decode cX5_isUp 10 = .ok (.bipush 22, 2) := dk_16 22 (dk_at dksX5_isUp_0 10 rfl rfl)
theorem dX5_isUp_12 : decode cX5_isUp 12 = .ok (.iload_n 1, 1) := dk_27 (dk_at dksX5_isUp_0 12 rfl rfl)
theorem dX5_isUp_13 : decode cX5_isUp 13 = .ok (.iadd, 1) := dk_96 (dk_at dksX5_isUp_0 13 rfl rfl)
theorem dX5_isUp_14 : decode cX5_isUp 14 = .ok (.iaload, 1) := dk_46 (dk_at dksX5_isUp_0 14 rfl rfl)
theorem dX5_isUp_15 : decode cX5_isUp 15 = .ok (.iadd, 1) := dk_96 (dk_at dksX5_isUp_0 15 rfl rfl)
theorem dX5_isUp_16 : decode cX5_isUp 16 = .ok (.iaload, 1) := dk_46 (dk_at dksX5_isUp_0 16 rfl rfl)
theorem dX5_isUp_17 : decode cX5_isUp 17 = .ok (.aload_n 0, 1) := dk_42 (dk_at dksX5_isUp_0 17 rfl rfl)
theorem dX5_isUp_18 : decode cX5_isUp 18 = .ok (.getfield 7, 3) := dk_180 0 7 (dk_at dksX5_isUp_0 18 rfl rfl)
theorem dX5_isUp_21 : decode cX5_isUp 21 = .ok (.iconst 4, 1) := dk_7 (dk_at dksX5_isUp_0 21 rfl rfl)
theorem dX5_isUp_22 : decode cX5_isUp 22 = .ok (.iload_n 2, 1) := dk_28 (dk_at dksX5_isUp_0 22 rfl rfl)
theorem dX5_isUp_23 : decode cX5_isUp 23 = .ok (.iadd, 1) := dk_96 (dk_at dksX5_isUp_0 23 rfl rfl)
theorem dX5_isUp_24 : decode cX5_isUp 24 = .ok (.iaload, 1) := dk_46 (dk_at dksX5_isUp_1 0 rfl rfl)
theorem dX5_isUp_25 : decode cX5_isUp 25 = .ok (.invokestatic 124, 3) := dk_184 0 124 (dk_at dksX5_isUp_1 1 rfl rfl)
theorem dX5_isUp_28 : decode cX5_isUp 28 = .ok (.ireturn, 1) := dk_172 (dk_at dksX5_isUp_1 4 rfl rfl)
abbrev cX5_has : ByteArray := prog_15_method_3_code
def yX5_has : MethodName := ⟨RX5, "has", "(II)Z"⟩
def dkwX5_has_0 : List UInt8 := [26, 27, 122, 4, 126, 4, 160, 0, 7, 4, 167, 0, 4, 3, 172]
abbrev dktX5_has_0 : List UInt8 := dkwX5_has_0 ++ []
theorem dksX5_has_0 : cX5_has.data.toList.drop 0 = dktX5_has_0 := by decide +kernel
theorem dX5_has_0 : decode cX5_has 0 = .ok (.iload_n 0, 1) := dk_26 (dk_at dksX5_has_0 0 rfl rfl)
theorem dX5_has_1 : decode cX5_has 1 = .ok (.iload_n 1, 1) := dk_27 (dk_at dksX5_has_0 1 rfl rfl)
theorem dX5_has_2 : decode cX5_has 2 = .ok (.ishr, 1) := dk_122 (dk_at dksX5_has_0 2 rfl rfl)
theorem dX5_has_3 : decode cX5_has 3 = .ok (.iconst 1, 1) := dk_4 (dk_at dksX5_has_0 3 rfl rfl)
theorem dX5_has_4 : decode cX5_has 4 = .ok (.iand, 1) := dk_126 (dk_at dksX5_has_0 4 rfl rfl)
theorem dX5_has_5 : decode cX5_has 5 = .ok (.iconst 1, 1) := dk_4 (dk_at dksX5_has_0 5 rfl rfl)
theorem dX5_has_6 : decode cX5_has 6 = .ok (.if_icmp .ne 7, 3) := dk_160 0 7 (dk_at dksX5_has_0 6 rfl rfl)
theorem dX5_has_9 : decode cX5_has 9 = .ok (.iconst 1, 1) := dk_4 (dk_at dksX5_has_0 9 rfl rfl)
theorem dX5_has_10 : decode cX5_has 10 = .ok (.goto 4, 3) := dk_167 0 4 (dk_at dksX5_has_0 10 rfl rfl)
theorem dX5_has_13 : decode cX5_has 13 = .ok (.iconst 0, 1) := dk_3 (dk_at dksX5_has_0 13 rfl rfl)
theorem dX5_has_14 : decode cX5_has 14 = .ok (.ireturn, 1) := dk_172 (dk_at dksX5_has_0 14 rfl rfl)
abbrev cX5_run : ByteArray := prog_15_method_29_code
def yX5_run : MethodName := ⟨RX5, "run", "(IIZ)I"⟩
def dkwX5_run_2 : List UInt8 := [132, 5, 1, 167, 255, 214, 29, 172]
abbrev dktX5_run_2 : List UInt8 := dkwX5_run_2 ++ []
def dkwX5_run_1 : List UInt8 := [21, 4, 4, 96, 167, 0, 4, 3, 54, 4, 21, 4, 29, 164, 0, 8, 21, 4, 167, 0, 4, 29, 62]
abbrev dktX5_run_1 : List UInt8 := dkwX5_run_1 ++ dktX5_run_2
def dkwX5_run_0 : List UInt8 := [3, 62, 3, 54, 4, 3, 54, 5, 21, 5, 27, 162, 0, 42, 26, 21, 5, 184, 0, 124, 28, 160, 0, 10]
abbrev dktX5_run_0 : List UInt8 := dkwX5_run_0 ++ dktX5_run_1
theorem dksX5_run_0 : cX5_run.data.toList.drop 0 = dktX5_run_0 := by decide +kernel
theorem dksX5_run_1 : cX5_run.data.toList.drop 24 = dktX5_run_1 := dk_seg dksX5_run_0 24 rfl rfl
theorem dksX5_run_2 : cX5_run.data.toList.drop 47 = dktX5_run_2 := dk_seg dksX5_run_1 23 rfl rfl
theorem dX5_run_0 : decode cX5_run 0 = .ok (.iconst 0, 1) := dk_3 (dk_at dksX5_run_0 0 rfl rfl)
theorem dX5_run_1 : decode cX5_run 1 = .ok (.istore_n 3, 1) := dk_62 (dk_at dksX5_run_0 1 rfl rfl)
theorem dX5_run_2 : decode cX5_run 2 = .ok (.iconst 0, 1) := dk_3 (dk_at dksX5_run_0 2 rfl rfl)
theorem dX5_run_3 : decode cX5_run 3 = .ok (.istore 4, 2) := dk_54 4 (dk_at dksX5_run_0 3 rfl rfl)
theorem dX5_run_5 : decode cX5_run 5 = .ok (.iconst 0, 1) := dk_3 (dk_at dksX5_run_0 5 rfl rfl)
theorem dX5_run_6 : decode cX5_run 6 = .ok (.istore 5, 2) := dk_54 5 (dk_at dksX5_run_0 6 rfl rfl)
theorem dX5_run_8 : decode cX5_run 8 = .ok (.iload 5, 2) := dk_21 5 (dk_at dksX5_run_0 8 rfl rfl)
theorem dX5_run_10 : decode cX5_run 10 = .ok (.iload_n 1, 1) := dk_27 (dk_at dksX5_run_0 10 rfl rfl)
theorem dX5_run_11 : decode cX5_run 11 = .ok (.if_icmp .ge 42, 3) := dk_162 0 42 (dk_at dksX5_run_0 11 rfl rfl)
theorem dX5_run_14 : decode cX5_run 14 = .ok (.iload_n 0, 1) := dk_26 (dk_at dksX5_run_0 14 rfl rfl)
theorem dX5_run_15 : decode cX5_run 15 = .ok (.iload 5, 2) := dk_21 5 (dk_at dksX5_run_0 15 rfl rfl)
theorem dX5_run_17 : decode cX5_run 17 = .ok (.invokestatic 124, 3) := dk_184 0 124 (dk_at dksX5_run_0 17 rfl rfl)
theorem dX5_run_20 : decode cX5_run 20 = .ok (.iload_n 2, 1) := dk_28 (dk_at dksX5_run_0 20 rfl rfl)
theorem dX5_run_21 : decode cX5_run 21 = .ok (.if_icmp .ne 10, 3) := dk_160 0 10 (dk_at dksX5_run_0 21 rfl rfl)
theorem dX5_run_24 : decode cX5_run 24 = .ok (.iload 4, 2) := dk_21 4 (dk_at dksX5_run_1 0 rfl rfl)
theorem dX5_run_26 : decode cX5_run 26 = .ok (.iconst 1, 1) := dk_4 (dk_at dksX5_run_1 2 rfl rfl)
theorem dX5_run_27 : decode cX5_run 27 = .ok (.iadd, 1) := dk_96 (dk_at dksX5_run_1 3 rfl rfl)
theorem dX5_run_28 : decode cX5_run 28 = .ok (.goto 4, 3) := dk_167 0 4 (dk_at dksX5_run_1 4 rfl rfl)
theorem dX5_run_31 : decode cX5_run 31 = .ok (.iconst 0, 1) := dk_3 (dk_at dksX5_run_1 7 rfl rfl)
theorem dX5_run_32 : decode cX5_run 32 = .ok (.istore 4, 2) := dk_54 4 (dk_at dksX5_run_1 8 rfl rfl)
theorem dX5_run_34 : decode cX5_run 34 = .ok (.iload 4, 2) := dk_21 4 (dk_at dksX5_run_1 10 rfl rfl)
theorem dX5_run_36 : decode cX5_run 36 = .ok (.iload_n 3, 1) := dk_29 (dk_at dksX5_run_1 12 rfl rfl)
theorem dX5_run_37 : decode cX5_run 37 = .ok (.if_icmp .le 8, 3) := dk_164 0 8 (dk_at dksX5_run_1 13 rfl rfl)
theorem dX5_run_40 : decode cX5_run 40 = .ok (.iload 4, 2) := dk_21 4 (dk_at dksX5_run_1 16 rfl rfl)
theorem dX5_run_42 : decode cX5_run 42 = .ok (.goto 4, 3) := dk_167 0 4 (dk_at dksX5_run_1 18 rfl rfl)
theorem dX5_run_45 : decode cX5_run 45 = .ok (.iload_n 3, 1) := dk_29 (dk_at dksX5_run_1 21 rfl rfl)
theorem dX5_run_46 : decode cX5_run 46 = .ok (.istore_n 3, 1) := dk_62 (dk_at dksX5_run_1 22 rfl rfl)
theorem dX5_run_47 : decode cX5_run 47 = .ok (.iinc 5 1, 3) := dk_132 5 1 (dk_at dksX5_run_2 0 rfl rfl)
theorem dX5_run_50 : decode cX5_run 50 = .ok (.goto (-42), 3) := dk_167 255 214 (dk_at dksX5_run_2 3 rfl rfl)
theorem dX5_run_53 : decode cX5_run 53 = .ok (.iload_n 3, 1) := dk_29 (dk_at dksX5_run_2 6 rfl rfl)
theorem dX5_run_54 : decode cX5_run 54 = .ok (.ireturn, 1) := dk_172 (dk_at dksX5_run_2 7 rfl rfl)
abbrev cX5_pick : ByteArray := prog_15_method_32_code
def yX5_pick : MethodName := ⟨RX5, "pick", "(II)I"⟩
def dkwX5_pick_5 : List UInt8 := [3, 172, 42, 27, 182, 0, 148, 172, 16, 253, 172]
abbrev dktX5_pick_5 : List UInt8 := dkwX5_pick_5 ++ []
def dkwX5_pick_4 : List UInt8 := [46, 4, 184, 0, 138, 172, 42, 27, 182, 0, 145, 172, 42, 27, 182, 0, 148, 158, 0, 7, 4, 167, 0, 4]
abbrev dktX5_pick_4 : List UInt8 := dkwX5_pick_4 ++ dktX5_pick_5
def dkwX5_pick_3 : List UInt8 := [182, 0, 145, 42, 180, 0, 7, 3, 46, 3, 184, 0, 138, 172, 42, 27, 182, 0, 145, 42, 180, 0, 7, 3]
abbrev dktX5_pick_3 : List UInt8 := dkwX5_pick_3 ++ dktX5_pick_4
def dkwX5_pick_2 : List UInt8 := [42, 180, 0, 7, 16, 22, 27, 96, 46, 172, 42, 180, 0, 7, 16, 46, 27, 96, 46, 172, 42, 27]
abbrev dktX5_pick_2 : List UInt8 := dkwX5_pick_2 ++ dktX5_pick_3
def dkwX5_pick_1 : List UInt8 := [170, 0, 0, 0, 0, 0, 0, 122, 0, 0, 0, 0, 0, 0, 0, 6, 0, 0, 0, 44, 0, 0, 0, 54, 0, 0, 0, 64, 0, 0, 0, 80, 0, 0, 0, 96, 0, 0, 0, 102, 0, 0, 0, 116]
abbrev dktX5_pick_1 : List UInt8 := dkwX5_pick_1 ++ dktX5_pick_2
def dkwX5_pick_0 : List UInt8 := [42, 27, 182, 0, 142, 154, 0, 6, 16, 254, 172, 28]
abbrev dktX5_pick_0 : List UInt8 := dkwX5_pick_0 ++ dktX5_pick_1
theorem dksX5_pick_0 : cX5_pick.data.toList.drop 0 = dktX5_pick_0 := by decide +kernel
theorem dksX5_pick_1 : cX5_pick.data.toList.drop 12 = dktX5_pick_1 := dk_seg dksX5_pick_0 12 rfl rfl
theorem dksX5_pick_2 : cX5_pick.data.toList.drop 56 = dktX5_pick_2 := dk_seg dksX5_pick_1 44 rfl rfl
theorem dksX5_pick_3 : cX5_pick.data.toList.drop 78 = dktX5_pick_3 := dk_seg dksX5_pick_2 22 rfl rfl
theorem dksX5_pick_4 : cX5_pick.data.toList.drop 102 = dktX5_pick_4 := dk_seg dksX5_pick_3 24 rfl rfl
theorem dksX5_pick_5 : cX5_pick.data.toList.drop 126 = dktX5_pick_5 := dk_seg dksX5_pick_4 24 rfl rfl
theorem dX5_pick_0 : decode cX5_pick 0 = .ok (.aload_n 0, 1) := dk_42 (dk_at dksX5_pick_0 0 rfl rfl)
theorem dX5_pick_1 : decode cX5_pick 1 = .ok (.iload_n 1, 1) := dk_27 (dk_at dksX5_pick_0 1 rfl rfl)
theorem dX5_pick_2 : decode cX5_pick 2 = .ok (.invokevirtual 142, 3) := dk_182 0 142 (dk_at dksX5_pick_0 2 rfl rfl)
theorem dX5_pick_5 : decode cX5_pick 5 = .ok (.ifCond .ne 6, 3) := dk_154 0 6 (dk_at dksX5_pick_0 5 rfl rfl)
theorem dX5_pick_8 : decode cX5_pick 8 = .ok (.bipush (-2), 2) := dk_16 254 (dk_at dksX5_pick_0 8 rfl rfl)
theorem dX5_pick_10 : decode cX5_pick 10 = .ok (.ireturn, 1) := dk_172 (dk_at dksX5_pick_0 10 rfl rfl)
theorem dX5_pick_11 : decode cX5_pick 11 = .ok (.iload_n 2, 1) := dk_28 (dk_at dksX5_pick_0 11 rfl rfl)
theorem dX5_pick_12 : decode cX5_pick 12 = .ok (.tableswitch 122 0 6 #[44, 54, 64, 80, 96, 102, 116], 44) := by decide +kernel
theorem dX5_pick_56 : decode cX5_pick 56 = .ok (.aload_n 0, 1) := dk_42 (dk_at dksX5_pick_2 0 rfl rfl)
theorem dX5_pick_57 : decode cX5_pick 57 = .ok (.getfield 7, 3) := dk_180 0 7 (dk_at dksX5_pick_2 1 rfl rfl)
theorem dX5_pick_60 : decode cX5_pick 60 = .ok (.bipush 22, 2) := dk_16 22 (dk_at dksX5_pick_2 4 rfl rfl)
theorem dX5_pick_62 : decode cX5_pick 62 = .ok (.iload_n 1, 1) := dk_27 (dk_at dksX5_pick_2 6 rfl rfl)
theorem dX5_pick_63 : decode cX5_pick 63 = .ok (.iadd, 1) := dk_96 (dk_at dksX5_pick_2 7 rfl rfl)
theorem dX5_pick_64 : decode cX5_pick 64 = .ok (.iaload, 1) := dk_46 (dk_at dksX5_pick_2 8 rfl rfl)
theorem dX5_pick_65 : decode cX5_pick 65 = .ok (.ireturn, 1) := dk_172 (dk_at dksX5_pick_2 9 rfl rfl)
theorem dX5_pick_66 : decode cX5_pick 66 = .ok (.aload_n 0, 1) := dk_42 (dk_at dksX5_pick_2 10 rfl rfl)
theorem dX5_pick_67 : decode cX5_pick 67 = .ok (.getfield 7, 3) := dk_180 0 7 (dk_at dksX5_pick_2 11 rfl rfl)
theorem dX5_pick_70 : decode cX5_pick 70 = .ok (.bipush 46, 2) := dk_16 46 (dk_at dksX5_pick_2 14 rfl rfl)
theorem dX5_pick_72 : decode cX5_pick 72 = .ok (.iload_n 1, 1) := dk_27 (dk_at dksX5_pick_2 16 rfl rfl)
theorem dX5_pick_73 : decode cX5_pick 73 = .ok (.iadd, 1) := dk_96 (dk_at dksX5_pick_2 17 rfl rfl)
theorem dX5_pick_74 : decode cX5_pick 74 = .ok (.iaload, 1) := dk_46 (dk_at dksX5_pick_2 18 rfl rfl)
theorem dX5_pick_75 : decode cX5_pick 75 = .ok (.ireturn, 1) := dk_172 (dk_at dksX5_pick_2 19 rfl rfl)
theorem dX5_pick_76 : decode cX5_pick 76 = .ok (.aload_n 0, 1) := dk_42 (dk_at dksX5_pick_2 20 rfl rfl)
theorem dX5_pick_77 : decode cX5_pick 77 = .ok (.iload_n 1, 1) := dk_27 (dk_at dksX5_pick_2 21 rfl rfl)
theorem dX5_pick_78 : decode cX5_pick 78 = .ok (.invokevirtual 145, 3) := dk_182 0 145 (dk_at dksX5_pick_3 0 rfl rfl)
theorem dX5_pick_81 : decode cX5_pick 81 = .ok (.aload_n 0, 1) := dk_42 (dk_at dksX5_pick_3 3 rfl rfl)
theorem dX5_pick_82 : decode cX5_pick 82 = .ok (.getfield 7, 3) := dk_180 0 7 (dk_at dksX5_pick_3 4 rfl rfl)
theorem dX5_pick_85 : decode cX5_pick 85 = .ok (.iconst 0, 1) := dk_3 (dk_at dksX5_pick_3 7 rfl rfl)
theorem dX5_pick_86 : decode cX5_pick 86 = .ok (.iaload, 1) := dk_46 (dk_at dksX5_pick_3 8 rfl rfl)
theorem dX5_pick_87 : decode cX5_pick 87 = .ok (.iconst 0, 1) := dk_3 (dk_at dksX5_pick_3 9 rfl rfl)
theorem dX5_pick_88 : decode cX5_pick 88 = .ok (.invokestatic 138, 3) := dk_184 0 138 (dk_at dksX5_pick_3 10 rfl rfl)
theorem dX5_pick_91 : decode cX5_pick 91 = .ok (.ireturn, 1) := dk_172 (dk_at dksX5_pick_3 13 rfl rfl)
theorem dX5_pick_92 : decode cX5_pick 92 = .ok (.aload_n 0, 1) := dk_42 (dk_at dksX5_pick_3 14 rfl rfl)
theorem dX5_pick_93 : decode cX5_pick 93 = .ok (.iload_n 1, 1) := dk_27 (dk_at dksX5_pick_3 15 rfl rfl)
theorem dX5_pick_94 : decode cX5_pick 94 = .ok (.invokevirtual 145, 3) := dk_182 0 145 (dk_at dksX5_pick_3 16 rfl rfl)
theorem dX5_pick_97 : decode cX5_pick 97 = .ok (.aload_n 0, 1) := dk_42 (dk_at dksX5_pick_3 19 rfl rfl)
theorem dX5_pick_98 : decode cX5_pick 98 = .ok (.getfield 7, 3) := dk_180 0 7 (dk_at dksX5_pick_3 20 rfl rfl)
theorem dX5_pick_101 : decode cX5_pick 101 = .ok (.iconst 0, 1) := dk_3 (dk_at dksX5_pick_3 23 rfl rfl)
theorem dX5_pick_102 : decode cX5_pick 102 = .ok (.iaload, 1) := dk_46 (dk_at dksX5_pick_4 0 rfl rfl)
theorem dX5_pick_103 : decode cX5_pick 103 = .ok (.iconst 1, 1) := dk_4 (dk_at dksX5_pick_4 1 rfl rfl)
theorem dX5_pick_104 : decode cX5_pick 104 = .ok (.invokestatic 138, 3) := dk_184 0 138 (dk_at dksX5_pick_4 2 rfl rfl)
theorem dX5_pick_107 : decode cX5_pick 107 = .ok (.ireturn, 1) := dk_172 (dk_at dksX5_pick_4 5 rfl rfl)
theorem dX5_pick_108 : decode cX5_pick 108 = .ok (.aload_n 0, 1) := dk_42 (dk_at dksX5_pick_4 6 rfl rfl)
theorem dX5_pick_109 : decode cX5_pick 109 = .ok (.iload_n 1, 1) := dk_27 (dk_at dksX5_pick_4 7 rfl rfl)
theorem dX5_pick_110 : decode cX5_pick 110 = .ok (.invokevirtual 145, 3) := dk_182 0 145 (dk_at dksX5_pick_4 8 rfl rfl)
theorem dX5_pick_113 : decode cX5_pick 113 = .ok (.ireturn, 1) := dk_172 (dk_at dksX5_pick_4 11 rfl rfl)
theorem dX5_pick_114 : decode cX5_pick 114 = .ok (.aload_n 0, 1) := dk_42 (dk_at dksX5_pick_4 12 rfl rfl)
theorem dX5_pick_115 : decode cX5_pick 115 = .ok (.iload_n 1, 1) := dk_27 (dk_at dksX5_pick_4 13 rfl rfl)
theorem dX5_pick_116 : decode cX5_pick 116 = .ok (.invokevirtual 148, 3) := dk_182 0 148 (dk_at dksX5_pick_4 14 rfl rfl)
theorem dX5_pick_119 : decode cX5_pick 119 = .ok (.ifCond .le 7, 3) := dk_158 0 7 (dk_at dksX5_pick_4 17 rfl rfl)
theorem dX5_pick_122 : decode cX5_pick 122 = .ok (.iconst 1, 1) := dk_4 (dk_at dksX5_pick_4 20 rfl rfl)
theorem dX5_pick_123 : decode cX5_pick 123 = .ok (.goto 4, 3) := dk_167 0 4 (dk_at dksX5_pick_4 21 rfl rfl)
theorem dX5_pick_126 : decode cX5_pick 126 = .ok (.iconst 0, 1) := dk_3 (dk_at dksX5_pick_5 0 rfl rfl)
theorem dX5_pick_127 : decode cX5_pick 127 = .ok (.ireturn, 1) := dk_172 (dk_at dksX5_pick_5 1 rfl rfl)
theorem dX5_pick_128 : decode cX5_pick 128 = .ok (.aload_n 0, 1) := dk_42 (dk_at dksX5_pick_5 2 rfl rfl)
theorem dX5_pick_129 : decode cX5_pick 129 = .ok (.iload_n 1, 1) := dk_27 (dk_at dksX5_pick_5 3 rfl rfl)
theorem dX5_pick_130 : decode cX5_pick 130 = .ok (.invokevirtual 148, 3) := dk_182 0 148 (dk_at dksX5_pick_5 4 rfl rfl)
theorem dX5_pick_133 : decode cX5_pick 133 = .ok (.ireturn, 1) := dk_172 (dk_at dksX5_pick_5 7 rfl rfl)
theorem dX5_pick_134 : decode cX5_pick 134 = .ok (.bipush (-3), 2) := dk_16 253 (dk_at dksX5_pick_5 8 rfl rfl)
theorem dX5_pick_136 : decode cX5_pick 136 = .ok (.ireturn, 1) := dk_172 (dk_at dksX5_pick_5 10 rfl rfl)
abbrev cX5_isPick : ByteArray := prog_15_method_23_code
def yX5_isPick : MethodName := ⟨RX5, "isPick", "(I)Z"⟩
def dkwX5_isPick_0 : List UInt8 := [27, 133, 9, 42, 180, 0, 7, 4, 46, 4, 100, 133, 184, 0, 47, 172]
abbrev dktX5_isPick_0 : List UInt8 := dkwX5_isPick_0 ++ []
theorem dksX5_isPick_0 : cX5_isPick.data.toList.drop 0 = dktX5_isPick_0 := by decide +kernel
theorem dX5_isPick_0 : decode cX5_isPick 0 = .ok (.iload_n 1, 1) := dk_27 (dk_at dksX5_isPick_0 0 rfl rfl)
theorem dX5_isPick_1 : decode cX5_isPick 1 = .ok (.i2l, 1) := dk_133 (dk_at dksX5_isPick_0 1 rfl rfl)
theorem dX5_isPick_2 : decode cX5_isPick 2 = .ok (.lconst 0, 1) := dk_9 (dk_at dksX5_isPick_0 2 rfl rfl)
theorem dX5_isPick_3 : decode cX5_isPick 3 = .ok (.aload_n 0, 1) := dk_42 (dk_at dksX5_isPick_0 3 rfl rfl)
theorem dX5_isPick_4 : decode cX5_isPick 4 = .ok (.getfield 7, 3) := dk_180 0 7 (dk_at dksX5_isPick_0 4 rfl rfl)
theorem dX5_isPick_7 : decode cX5_isPick 7 = .ok (.iconst 1, 1) := dk_4 (dk_at dksX5_isPick_0 7 rfl rfl)
theorem dX5_isPick_8 : decode cX5_isPick 8 = .ok (.iaload, 1) := dk_46 (dk_at dksX5_isPick_0 8 rfl rfl)
theorem dX5_isPick_9 : decode cX5_isPick 9 = .ok (.iconst 1, 1) := dk_4 (dk_at dksX5_isPick_0 9 rfl rfl)
theorem dX5_isPick_10 : decode cX5_isPick 10 = .ok (.isub, 1) := dk_100 (dk_at dksX5_isPick_0 10 rfl rfl)
theorem dX5_isPick_11 : decode cX5_isPick 11 = .ok (.i2l, 1) := dk_133 (dk_at dksX5_isPick_0 11 rfl rfl)
theorem dX5_isPick_12 : decode cX5_isPick 12 = .ok (.invokestatic 47, 3) := dk_184 0 47 (dk_at dksX5_isPick_0 12 rfl rfl)
theorem dX5_isPick_15 : decode cX5_isPick 15 = .ok (.ireturn, 1) := dk_172 (dk_at dksX5_isPick_0 15 rfl rfl)
abbrev cX5_upPick : ByteArray := prog_15_method_28_code
def yX5_upPick : MethodName := ⟨RX5, "upPick", "(I)I"⟩
def dkwX5_upPick_1 : List UInt8 := [4, 29, 120, 167, 0, 4, 3, 128, 61, 132, 3, 1, 167, 255, 224, 28, 172]
abbrev dktX5_upPick_1 : List UInt8 := dkwX5_upPick_1 ++ []
def dkwX5_upPick_0 : List UInt8 := [3, 61, 3, 62, 29, 42, 180, 0, 7, 3, 46, 162, 0, 28, 28, 42, 27, 29, 182, 0, 128, 153, 0, 9]
abbrev dktX5_upPick_0 : List UInt8 := dkwX5_upPick_0 ++ dktX5_upPick_1
theorem dksX5_upPick_0 : cX5_upPick.data.toList.drop 0 = dktX5_upPick_0 := by decide +kernel
theorem dksX5_upPick_1 : cX5_upPick.data.toList.drop 24 = dktX5_upPick_1 := dk_seg dksX5_upPick_0 24 rfl rfl
theorem dX5_upPick_0 : decode cX5_upPick 0 = .ok (.iconst 0, 1) := dk_3 (dk_at dksX5_upPick_0 0 rfl rfl)
theorem dX5_upPick_1 : decode cX5_upPick 1 = .ok (.istore_n 2, 1) := dk_61 (dk_at dksX5_upPick_0 1 rfl rfl)
theorem dX5_upPick_2 : decode cX5_upPick 2 = .ok (.iconst 0, 1) := dk_3 (dk_at dksX5_upPick_0 2 rfl rfl)
theorem dX5_upPick_3 : decode cX5_upPick 3 = .ok (.istore_n 3, 1) := dk_62 (dk_at dksX5_upPick_0 3 rfl rfl)
theorem dX5_upPick_4 : decode cX5_upPick 4 = .ok (.iload_n 3, 1) := dk_29 (dk_at dksX5_upPick_0 4 rfl rfl)
theorem dX5_upPick_5 : decode cX5_upPick 5 = .ok (.aload_n 0, 1) := dk_42 (dk_at dksX5_upPick_0 5 rfl rfl)
theorem dX5_upPick_6 : decode cX5_upPick 6 = .ok (.getfield 7, 3) := dk_180 0 7 (dk_at dksX5_upPick_0 6 rfl rfl)
theorem dX5_upPick_9 : decode cX5_upPick 9 = .ok (.iconst 0, 1) := dk_3 (dk_at dksX5_upPick_0 9 rfl rfl)
theorem dX5_upPick_10 : decode cX5_upPick 10 = .ok (.iaload, 1) := dk_46 (dk_at dksX5_upPick_0 10 rfl rfl)
theorem dX5_upPick_11 : decode cX5_upPick 11 = .ok (.if_icmp .ge 28, 3) := dk_162 0 28 (dk_at dksX5_upPick_0 11 rfl rfl)
theorem dX5_upPick_14 : decode cX5_upPick 14 = .ok (.iload_n 2, 1) := dk_28 (dk_at dksX5_upPick_0 14 rfl rfl)
theorem dX5_upPick_15 : decode cX5_upPick 15 = .ok (.aload_n 0, 1) := dk_42 (dk_at dksX5_upPick_0 15 rfl rfl)
theorem dX5_upPick_16 : decode cX5_upPick 16 = .ok (.iload_n 1, 1) := dk_27 (dk_at dksX5_upPick_0 16 rfl rfl)
theorem dX5_upPick_17 : decode cX5_upPick 17 = .ok (.iload_n 3, 1) := dk_29 (dk_at dksX5_upPick_0 17 rfl rfl)
theorem dX5_upPick_18 : decode cX5_upPick 18 = .ok (.invokevirtual 128, 3) := dk_182 0 128 (dk_at dksX5_upPick_0 18 rfl rfl)
theorem dX5_upPick_21 : decode cX5_upPick 21 = .ok (.ifCond .eq 9, 3) := dk_153 0 9 (dk_at dksX5_upPick_0 21 rfl rfl)
theorem dX5_upPick_24 : decode cX5_upPick 24 = .ok (.iconst 1, 1) := dk_4 (dk_at dksX5_upPick_1 0 rfl rfl)
theorem dX5_upPick_25 : decode cX5_upPick 25 = .ok (.iload_n 3, 1) := dk_29 (dk_at dksX5_upPick_1 1 rfl rfl)
theorem dX5_upPick_26 : decode cX5_upPick 26 = .ok (.ishl, 1) := dk_120 (dk_at dksX5_upPick_1 2 rfl rfl)
theorem dX5_upPick_27 : decode cX5_upPick 27 = .ok (.goto 4, 3) := dk_167 0 4 (dk_at dksX5_upPick_1 3 rfl rfl)
theorem dX5_upPick_30 : decode cX5_upPick 30 = .ok (.iconst 0, 1) := dk_3 (dk_at dksX5_upPick_1 6 rfl rfl)
theorem dX5_upPick_31 : decode cX5_upPick 31 = .ok (.ior, 1) := dk_128 (dk_at dksX5_upPick_1 7 rfl rfl)
theorem dX5_upPick_32 : decode cX5_upPick 32 = .ok (.istore_n 2, 1) := dk_61 (dk_at dksX5_upPick_1 8 rfl rfl)
theorem dX5_upPick_33 : decode cX5_upPick 33 = .ok (.iinc 3 1, 3) := dk_132 3 1 (dk_at dksX5_upPick_1 9 rfl rfl)
theorem dX5_upPick_36 : decode cX5_upPick 36 = .ok (.goto (-32), 3) := dk_167 255 224 (dk_at dksX5_upPick_1 12 rfl rfl)
theorem dX5_upPick_39 : decode cX5_upPick 39 = .ok (.iload_n 2, 1) := dk_28 (dk_at dksX5_upPick_1 15 rfl rfl)
theorem dX5_upPick_40 : decode cX5_upPick 40 = .ok (.ireturn, 1) := dk_172 (dk_at dksX5_upPick_1 16 rfl rfl)
abbrev cX5_stitches : ByteArray := prog_15_method_31_code
def yX5_stitches : MethodName := ⟨RX5, "stitches", "(I)I"⟩
def dkwX5_stitches_3 : List UInt8 := [167, 255, 191, 28, 172]
abbrev dktX5_stitches_3 : List UInt8 := dkwX5_stitches_3 ++ []
def dkwX5_stitches_2 : List UInt8 := [154, 0, 16, 42, 27, 29, 182, 0, 128, 154, 0, 7, 4, 167, 0, 4, 3, 96, 61, 132, 3, 1]
abbrev dktX5_stitches_2 : List UInt8 := dkwX5_stitches_2 ++ dktX5_stitches_3
def dkwX5_stitches_1 : List UInt8 := [4, 160, 0, 12, 42, 27, 29, 182, 0, 128, 154, 0, 25, 27, 5, 112, 4, 160, 0, 22, 29, 5, 112]
abbrev dktX5_stitches_1 : List UInt8 := dkwX5_stitches_1 ++ dktX5_stitches_2
def dkwX5_stitches_0 : List UInt8 := [3, 61, 3, 62, 29, 42, 180, 0, 7, 3, 46, 162, 0, 61, 28, 27, 5, 112, 154, 0, 19, 29, 5, 112]
abbrev dktX5_stitches_0 : List UInt8 := dkwX5_stitches_0 ++ dktX5_stitches_1
theorem dksX5_stitches_0 : cX5_stitches.data.toList.drop 0 = dktX5_stitches_0 := by decide +kernel
theorem dksX5_stitches_1 : cX5_stitches.data.toList.drop 24 = dktX5_stitches_1 := dk_seg dksX5_stitches_0 24 rfl rfl
theorem dksX5_stitches_2 : cX5_stitches.data.toList.drop 47 = dktX5_stitches_2 := dk_seg dksX5_stitches_1 23 rfl rfl
theorem dksX5_stitches_3 : cX5_stitches.data.toList.drop 69 = dktX5_stitches_3 := dk_seg dksX5_stitches_2 22 rfl rfl
theorem dX5_stitches_0 : decode cX5_stitches 0 = .ok (.iconst 0, 1) := dk_3 (dk_at dksX5_stitches_0 0 rfl rfl)
theorem dX5_stitches_1 : decode cX5_stitches 1 = .ok (.istore_n 2, 1) := dk_61 (dk_at dksX5_stitches_0 1 rfl rfl)
theorem dX5_stitches_2 : decode cX5_stitches 2 = .ok (.iconst 0, 1) := dk_3 (dk_at dksX5_stitches_0 2 rfl rfl)
theorem dX5_stitches_3 : decode cX5_stitches 3 = .ok (.istore_n 3, 1) := dk_62 (dk_at dksX5_stitches_0 3 rfl rfl)
theorem dX5_stitches_4 : decode cX5_stitches 4 = .ok (.iload_n 3, 1) := dk_29 (dk_at dksX5_stitches_0 4 rfl rfl)
theorem dX5_stitches_5 : decode cX5_stitches 5 = .ok (.aload_n 0, 1) := dk_42 (dk_at dksX5_stitches_0 5 rfl rfl)
theorem dX5_stitches_6 : decode cX5_stitches 6 = .ok (.getfield 7, 3) := dk_180 0 7 (dk_at dksX5_stitches_0 6 rfl rfl)
theorem dX5_stitches_9 : decode cX5_stitches 9 = .ok (.iconst 0, 1) := dk_3 (dk_at dksX5_stitches_0 9 rfl rfl)
theorem dX5_stitches_10 : decode cX5_stitches 10 = .ok (.iaload, 1) := dk_46 (dk_at dksX5_stitches_0 10 rfl rfl)
theorem dX5_stitches_11 : decode cX5_stitches 11 = .ok (.if_icmp .ge 61, 3) := dk_162 0 61 (dk_at dksX5_stitches_0 11 rfl rfl)
theorem dX5_stitches_14 : decode cX5_stitches 14 = .ok (.iload_n 2, 1) := dk_28 (dk_at dksX5_stitches_0 14 rfl rfl)
theorem dX5_stitches_15 : decode cX5_stitches 15 = .ok (.iload_n 1, 1) := dk_27 (dk_at dksX5_stitches_0 15 rfl rfl)
theorem dX5_stitches_16 : decode cX5_stitches 16 = .ok (.iconst 2, 1) := dk_5 (dk_at dksX5_stitches_0 16 rfl rfl)
theorem dX5_stitches_17 : decode cX5_stitches 17 = .ok (.irem, 1) := dk_112 (dk_at dksX5_stitches_0 17 rfl rfl)
theorem dX5_stitches_18 : decode cX5_stitches 18 = .ok (.ifCond .ne 19, 3) := dk_154 0 19 (dk_at dksX5_stitches_0 18 rfl rfl)
theorem dX5_stitches_21 : decode cX5_stitches 21 = .ok (.iload_n 3, 1) := dk_29 (dk_at dksX5_stitches_0 21 rfl rfl)
theorem dX5_stitches_22 : decode cX5_stitches 22 = .ok (.iconst 2, 1) := dk_5 (dk_at dksX5_stitches_0 22 rfl rfl)
theorem dX5_stitches_23 : decode cX5_stitches 23 = .ok (.irem, 1) := dk_112 (dk_at dksX5_stitches_0 23 rfl rfl)
theorem dX5_stitches_24 : decode cX5_stitches 24 = .ok (.iconst 1, 1) := dk_4 (dk_at dksX5_stitches_1 0 rfl rfl)
theorem dX5_stitches_25 : decode cX5_stitches 25 = .ok (.if_icmp .ne 12, 3) := dk_160 0 12 (dk_at dksX5_stitches_1 1 rfl rfl)
theorem dX5_stitches_28 : decode cX5_stitches 28 = .ok (.aload_n 0, 1) := dk_42 (dk_at dksX5_stitches_1 4 rfl rfl)
theorem dX5_stitches_29 : decode cX5_stitches 29 = .ok (.iload_n 1, 1) := dk_27 (dk_at dksX5_stitches_1 5 rfl rfl)
theorem dX5_stitches_30 : decode cX5_stitches 30 = .ok (.iload_n 3, 1) := dk_29 (dk_at dksX5_stitches_1 6 rfl rfl)
theorem dX5_stitches_31 : decode cX5_stitches 31 = .ok (.invokevirtual 128, 3) := dk_182 0 128 (dk_at dksX5_stitches_1 7 rfl rfl)
theorem dX5_stitches_34 : decode cX5_stitches 34 = .ok (.ifCond .ne 25, 3) := dk_154 0 25 (dk_at dksX5_stitches_1 10 rfl rfl)
theorem dX5_stitches_37 : decode cX5_stitches 37 = .ok (.iload_n 1, 1) := dk_27 (dk_at dksX5_stitches_1 13 rfl rfl)
theorem dX5_stitches_38 : decode cX5_stitches 38 = .ok (.iconst 2, 1) := dk_5 (dk_at dksX5_stitches_1 14 rfl rfl)
theorem dX5_stitches_39 : decode cX5_stitches 39 = .ok (.irem, 1) := dk_112 (dk_at dksX5_stitches_1 15 rfl rfl)
theorem dX5_stitches_40 : decode cX5_stitches 40 = .ok (.iconst 1, 1) := dk_4 (dk_at dksX5_stitches_1 16 rfl rfl)
theorem dX5_stitches_41 : decode cX5_stitches 41 = .ok (.if_icmp .ne 22, 3) := dk_160 0 22 (dk_at dksX5_stitches_1 17 rfl rfl)
theorem dX5_stitches_44 : decode cX5_stitches 44 = .ok (.iload_n 3, 1) := dk_29 (dk_at dksX5_stitches_1 20 rfl rfl)
theorem dX5_stitches_45 : decode cX5_stitches 45 = .ok (.iconst 2, 1) := dk_5 (dk_at dksX5_stitches_1 21 rfl rfl)
theorem dX5_stitches_46 : decode cX5_stitches 46 = .ok (.irem, 1) := dk_112 (dk_at dksX5_stitches_1 22 rfl rfl)
theorem dX5_stitches_47 : decode cX5_stitches 47 = .ok (.ifCond .ne 16, 3) := dk_154 0 16 (dk_at dksX5_stitches_2 0 rfl rfl)
theorem dX5_stitches_50 : decode cX5_stitches 50 = .ok (.aload_n 0, 1) := dk_42 (dk_at dksX5_stitches_2 3 rfl rfl)
theorem dX5_stitches_51 : decode cX5_stitches 51 = .ok (.iload_n 1, 1) := dk_27 (dk_at dksX5_stitches_2 4 rfl rfl)
theorem dX5_stitches_52 : decode cX5_stitches 52 = .ok (.iload_n 3, 1) := dk_29 (dk_at dksX5_stitches_2 5 rfl rfl)
theorem dX5_stitches_53 : decode cX5_stitches 53 = .ok (.invokevirtual 128, 3) := dk_182 0 128 (dk_at dksX5_stitches_2 6 rfl rfl)
theorem dX5_stitches_56 : decode cX5_stitches 56 = .ok (.ifCond .ne 7, 3) := dk_154 0 7 (dk_at dksX5_stitches_2 9 rfl rfl)
theorem dX5_stitches_59 : decode cX5_stitches 59 = .ok (.iconst 1, 1) := dk_4 (dk_at dksX5_stitches_2 12 rfl rfl)
theorem dX5_stitches_60 : decode cX5_stitches 60 = .ok (.goto 4, 3) := dk_167 0 4 (dk_at dksX5_stitches_2 13 rfl rfl)
theorem dX5_stitches_63 : decode cX5_stitches 63 = .ok (.iconst 0, 1) := dk_3 (dk_at dksX5_stitches_2 16 rfl rfl)
theorem dX5_stitches_64 : decode cX5_stitches 64 = .ok (.iadd, 1) := dk_96 (dk_at dksX5_stitches_2 17 rfl rfl)
theorem dX5_stitches_65 : decode cX5_stitches 65 = .ok (.istore_n 2, 1) := dk_61 (dk_at dksX5_stitches_2 18 rfl rfl)
theorem dX5_stitches_66 : decode cX5_stitches 66 = .ok (.iinc 3 1, 3) := dk_132 3 1 (dk_at dksX5_stitches_2 19 rfl rfl)
theorem dX5_stitches_69 : decode cX5_stitches 69 = .ok (.goto (-65), 3) := dk_167 255 191 (dk_at dksX5_stitches_3 0 rfl rfl)
theorem dX5_stitches_72 : decode cX5_stitches 72 = .ok (.iload_n 2, 1) := dk_28 (dk_at dksX5_stitches_3 3 rfl rfl)
theorem dX5_stitches_73 : decode cX5_stitches 73 = .ok (.ireturn, 1) := dk_172 (dk_at dksX5_stitches_3 4 rfl rfl)
abbrev cX5_treadle : ByteArray := prog_15_method_33_code
def yX5_treadle : MethodName := ⟨RX5, "treadle", "(I)I"⟩
def dkwX5_treadle_0 : List UInt8 := [42, 27, 182, 0, 151, 153, 0, 15, 42, 180, 0, 7, 16, 16, 27, 96, 46, 167, 0, 5, 16, 254, 172]
abbrev dktX5_treadle_0 : List UInt8 := dkwX5_treadle_0 ++ []
theorem dksX5_treadle_0 : cX5_treadle.data.toList.drop 0 = dktX5_treadle_0 := by decide +kernel
theorem dX5_treadle_0 : decode cX5_treadle 0 = .ok (.aload_n 0, 1) := dk_42 (dk_at dksX5_treadle_0 0 rfl rfl)
theorem dX5_treadle_1 : decode cX5_treadle 1 = .ok (.iload_n 1, 1) := dk_27 (dk_at dksX5_treadle_0 1 rfl rfl)
theorem dX5_treadle_2 : decode cX5_treadle 2 = .ok (.invokevirtual 151, 3) := dk_182 0 151 (dk_at dksX5_treadle_0 2 rfl rfl)
theorem dX5_treadle_5 : decode cX5_treadle 5 = .ok (.ifCond .eq 15, 3) := dk_153 0 15 (dk_at dksX5_treadle_0 5 rfl rfl)
theorem dX5_treadle_8 : decode cX5_treadle 8 = .ok (.aload_n 0, 1) := dk_42 (dk_at dksX5_treadle_0 8 rfl rfl)
theorem dX5_treadle_9 : decode cX5_treadle 9 = .ok (.getfield 7, 3) := dk_180 0 7 (dk_at dksX5_treadle_0 9 rfl rfl)
theorem dX5_treadle_12 : decode cX5_treadle 12 = .ok (.bipush 16, 2) := dk_16 16 (dk_at dksX5_treadle_0 12 rfl rfl)
theorem dX5_treadle_14 : decode cX5_treadle 14 = .ok (.iload_n 1, 1) := dk_27 (dk_at dksX5_treadle_0 14 rfl rfl)
theorem dX5_treadle_15 : decode cX5_treadle 15 = .ok (.iadd, 1) := dk_96 (dk_at dksX5_treadle_0 15 rfl rfl)
theorem dX5_treadle_16 : decode cX5_treadle 16 = .ok (.iaload, 1) := dk_46 (dk_at dksX5_treadle_0 16 rfl rfl)
theorem dX5_treadle_17 : decode cX5_treadle 17 = .ok (.goto 5, 3) := dk_167 0 5 (dk_at dksX5_treadle_0 17 rfl rfl)
theorem dX5_treadle_20 : decode cX5_treadle 20 = .ok (.bipush (-2), 2) := dk_16 254 (dk_at dksX5_treadle_0 20 rfl rfl)
theorem dX5_treadle_22 : decode cX5_treadle 22 = .ok (.ireturn, 1) := dk_172 (dk_at dksX5_treadle_0 22 rfl rfl)
abbrev cX5_isTreadle : ByteArray := prog_15_method_25_code
def yX5_isTreadle : MethodName := ⟨RX5, "isTreadle", "(I)Z"⟩
def dkwX5_isTreadle_0 : List UInt8 := [27, 133, 9, 42, 180, 0, 7, 6, 46, 4, 100, 133, 184, 0, 47, 172]
abbrev dktX5_isTreadle_0 : List UInt8 := dkwX5_isTreadle_0 ++ []
theorem dksX5_isTreadle_0 : cX5_isTreadle.data.toList.drop 0 = dktX5_isTreadle_0 := by decide +kernel
theorem dX5_isTreadle_0 : decode cX5_isTreadle 0 = .ok (.iload_n 1, 1) := dk_27 (dk_at dksX5_isTreadle_0 0 rfl rfl)
theorem dX5_isTreadle_1 : decode cX5_isTreadle 1 = .ok (.i2l, 1) := dk_133 (dk_at dksX5_isTreadle_0 1 rfl rfl)
theorem dX5_isTreadle_2 : decode cX5_isTreadle 2 = .ok (.lconst 0, 1) := dk_9 (dk_at dksX5_isTreadle_0 2 rfl rfl)
theorem dX5_isTreadle_3 : decode cX5_isTreadle 3 = .ok (.aload_n 0, 1) := dk_42 (dk_at dksX5_isTreadle_0 3 rfl rfl)
theorem dX5_isTreadle_4 : decode cX5_isTreadle 4 = .ok (.getfield 7, 3) := dk_180 0 7 (dk_at dksX5_isTreadle_0 4 rfl rfl)
theorem dX5_isTreadle_7 : decode cX5_isTreadle 7 = .ok (.iconst 3, 1) := dk_6 (dk_at dksX5_isTreadle_0 7 rfl rfl)
theorem dX5_isTreadle_8 : decode cX5_isTreadle 8 = .ok (.iaload, 1) := dk_46 (dk_at dksX5_isTreadle_0 8 rfl rfl)
theorem dX5_isTreadle_9 : decode cX5_isTreadle 9 = .ok (.iconst 1, 1) := dk_4 (dk_at dksX5_isTreadle_0 9 rfl rfl)
theorem dX5_isTreadle_10 : decode cX5_isTreadle 10 = .ok (.isub, 1) := dk_100 (dk_at dksX5_isTreadle_0 10 rfl rfl)
theorem dX5_isTreadle_11 : decode cX5_isTreadle 11 = .ok (.i2l, 1) := dk_133 (dk_at dksX5_isTreadle_0 11 rfl rfl)
theorem dX5_isTreadle_12 : decode cX5_isTreadle 12 = .ok (.invokestatic 47, 3) := dk_184 0 47 (dk_at dksX5_isTreadle_0 12 rfl rfl)
theorem dX5_isTreadle_15 : decode cX5_isTreadle 15 = .ok (.ireturn, 1) := dk_172 (dk_at dksX5_isTreadle_0 15 rfl rfl)
abbrev cX5_cross : ByteArray := prog_15_method_34_code
def yX5_cross : MethodName := ⟨RX5, "cross", "(III)I"⟩
def dkwX5_cross_3 : List UInt8 := [46, 167, 0, 12, 42, 180, 0, 7, 16, 46, 27, 96, 46, 172]
abbrev dktX5_cross_3 : List UInt8 := dkwX5_cross_3 ++ []
def dkwX5_cross_2 : List UInt8 := [167, 0, 37, 3, 167, 0, 33, 42, 27, 28, 182, 0, 128, 153, 0, 15, 42, 180, 0, 7, 16, 34, 28, 96]
abbrev dktX5_cross_2 : List UInt8 := dkwX5_cross_2 ++ dktX5_cross_3
def dkwX5_cross_1 : List UInt8 := [184, 0, 47, 154, 0, 6, 16, 253, 172, 29, 154, 0, 20, 42, 27, 28, 182, 0, 128, 153, 0, 7, 4]
abbrev dktX5_cross_1 : List UInt8 := dkwX5_cross_1 ++ dktX5_cross_2
def dkwX5_cross_0 : List UInt8 := [42, 27, 182, 0, 142, 153, 0, 11, 42, 28, 182, 0, 131, 154, 0, 6, 16, 254, 172, 29, 133, 9, 10]
abbrev dktX5_cross_0 : List UInt8 := dkwX5_cross_0 ++ dktX5_cross_1
theorem dksX5_cross_0 : cX5_cross.data.toList.drop 0 = dktX5_cross_0 := by decide +kernel
theorem dksX5_cross_1 : cX5_cross.data.toList.drop 23 = dktX5_cross_1 := dk_seg dksX5_cross_0 23 rfl rfl
theorem dksX5_cross_2 : cX5_cross.data.toList.drop 46 = dktX5_cross_2 := dk_seg dksX5_cross_1 23 rfl rfl
theorem dksX5_cross_3 : cX5_cross.data.toList.drop 70 = dktX5_cross_3 := dk_seg dksX5_cross_2 24 rfl rfl
theorem dX5_cross_0 : decode cX5_cross 0 = .ok (.aload_n 0, 1) := dk_42 (dk_at dksX5_cross_0 0 rfl rfl)
theorem dX5_cross_1 : decode cX5_cross 1 = .ok (.iload_n 1, 1) := dk_27 (dk_at dksX5_cross_0 1 rfl rfl)
theorem dX5_cross_2 : decode cX5_cross 2 = .ok (.invokevirtual 142, 3) := dk_182 0 142 (dk_at dksX5_cross_0 2 rfl rfl)
theorem dX5_cross_5 : decode cX5_cross 5 = .ok (.ifCond .eq 11, 3) := dk_153 0 11 (dk_at dksX5_cross_0 5 rfl rfl)
theorem dX5_cross_8 : decode cX5_cross 8 = .ok (.aload_n 0, 1) := dk_42 (dk_at dksX5_cross_0 8 rfl rfl)
theorem dX5_cross_9 : decode cX5_cross 9 = .ok (.iload_n 2, 1) := dk_28 (dk_at dksX5_cross_0 9 rfl rfl)
theorem dX5_cross_10 : decode cX5_cross 10 = .ok (.invokevirtual 131, 3) := dk_182 0 131 (dk_at dksX5_cross_0 10 rfl rfl)
theorem dX5_cross_13 : decode cX5_cross 13 = .ok (.ifCond .ne 6, 3) := dk_154 0 6 (dk_at dksX5_cross_0 13 rfl rfl)
theorem dX5_cross_16 : decode cX5_cross 16 = .ok (.bipush (-2), 2) := dk_16 254 (dk_at dksX5_cross_0 16 rfl rfl)
theorem dX5_cross_18 : decode cX5_cross 18 = .ok (.ireturn, 1) := dk_172 (dk_at dksX5_cross_0 18 rfl rfl)
theorem dX5_cross_19 : decode cX5_cross 19 = .ok (.iload_n 3, 1) := dk_29 (dk_at dksX5_cross_0 19 rfl rfl)
theorem dX5_cross_20 : decode cX5_cross 20 = .ok (.i2l, 1) := dk_133 (dk_at dksX5_cross_0 20 rfl rfl)
theorem dX5_cross_21 : decode cX5_cross 21 = .ok (.lconst 0, 1) := dk_9 (dk_at dksX5_cross_0 21 rfl rfl)
theorem dX5_cross_22 : decode cX5_cross 22 = .ok (.lconst 1, 1) := dk_10 (dk_at dksX5_cross_0 22 rfl rfl)
theorem dX5_cross_23 : decode cX5_cross 23 = .ok (.invokestatic 47, 3) := dk_184 0 47 (dk_at dksX5_cross_1 0 rfl rfl)
theorem dX5_cross_26 : decode cX5_cross 26 = .ok (.ifCond .ne 6, 3) := dk_154 0 6 (dk_at dksX5_cross_1 3 rfl rfl)
theorem dX5_cross_29 : decode cX5_cross 29 = .ok (.bipush (-3), 2) := dk_16 253 (dk_at dksX5_cross_1 6 rfl rfl)
theorem dX5_cross_31 : decode cX5_cross 31 = .ok (.ireturn, 1) := dk_172 (dk_at dksX5_cross_1 8 rfl rfl)
theorem dX5_cross_32 : decode cX5_cross 32 = .ok (.iload_n 3, 1) := dk_29 (dk_at dksX5_cross_1 9 rfl rfl)
theorem dX5_cross_33 : decode cX5_cross 33 = .ok (.ifCond .ne 20, 3) := dk_154 0 20 (dk_at dksX5_cross_1 10 rfl rfl)
theorem dX5_cross_36 : decode cX5_cross 36 = .ok (.aload_n 0, 1) := dk_42 (dk_at dksX5_cross_1 13 rfl rfl)
theorem dX5_cross_37 : decode cX5_cross 37 = .ok (.iload_n 1, 1) := dk_27 (dk_at dksX5_cross_1 14 rfl rfl)
theorem dX5_cross_38 : decode cX5_cross 38 = .ok (.iload_n 2, 1) := dk_28 (dk_at dksX5_cross_1 15 rfl rfl)
theorem dX5_cross_39 : decode cX5_cross 39 = .ok (.invokevirtual 128, 3) := dk_182 0 128 (dk_at dksX5_cross_1 16 rfl rfl)
theorem dX5_cross_42 : decode cX5_cross 42 = .ok (.ifCond .eq 7, 3) := dk_153 0 7 (dk_at dksX5_cross_1 19 rfl rfl)
theorem dX5_cross_45 : decode cX5_cross 45 = .ok (.iconst 1, 1) := dk_4 (dk_at dksX5_cross_1 22 rfl rfl)
theorem dX5_cross_46 : decode cX5_cross 46 = .ok (.goto 37, 3) := dk_167 0 37 (dk_at dksX5_cross_2 0 rfl rfl)
theorem dX5_cross_49 : decode cX5_cross 49 = .ok (.iconst 0, 1) := dk_3 (dk_at dksX5_cross_2 3 rfl rfl)
theorem dX5_cross_50 : decode cX5_cross 50 = .ok (.goto 33, 3) := dk_167 0 33 (dk_at dksX5_cross_2 4 rfl rfl)
theorem dX5_cross_53 : decode cX5_cross 53 = .ok (.aload_n 0, 1) := dk_42 (dk_at dksX5_cross_2 7 rfl rfl)
theorem dX5_cross_54 : decode cX5_cross 54 = .ok (.iload_n 1, 1) := dk_27 (dk_at dksX5_cross_2 8 rfl rfl)
theorem dX5_cross_55 : decode cX5_cross 55 = .ok (.iload_n 2, 1) := dk_28 (dk_at dksX5_cross_2 9 rfl rfl)
theorem dX5_cross_56 : decode cX5_cross 56 = .ok (.invokevirtual 128, 3) := dk_182 0 128 (dk_at dksX5_cross_2 10 rfl rfl)
theorem dX5_cross_59 : decode cX5_cross 59 = .ok (.ifCond .eq 15, 3) := dk_153 0 15 (dk_at dksX5_cross_2 13 rfl rfl)
theorem dX5_cross_62 : decode cX5_cross 62 = .ok (.aload_n 0, 1) := dk_42 (dk_at dksX5_cross_2 16 rfl rfl)
theorem dX5_cross_63 : decode cX5_cross 63 = .ok (.getfield 7, 3) := dk_180 0 7 (dk_at dksX5_cross_2 17 rfl rfl)
theorem dX5_cross_66 : decode cX5_cross 66 = .ok (.bipush 34, 2) := dk_16 34 (dk_at dksX5_cross_2 20 rfl rfl)
theorem dX5_cross_68 : decode cX5_cross 68 = .ok (.iload_n 2, 1) := dk_28 (dk_at dksX5_cross_2 22 rfl rfl)
theorem dX5_cross_69 : decode cX5_cross 69 = .ok (.iadd, 1) := dk_96 (dk_at dksX5_cross_2 23 rfl rfl)
theorem dX5_cross_70 : decode cX5_cross 70 = .ok (.iaload, 1) := dk_46 (dk_at dksX5_cross_3 0 rfl rfl)
theorem dX5_cross_71 : decode cX5_cross 71 = .ok (.goto 12, 3) := dk_167 0 12 (dk_at dksX5_cross_3 1 rfl rfl)
theorem dX5_cross_74 : decode cX5_cross 74 = .ok (.aload_n 0, 1) := dk_42 (dk_at dksX5_cross_3 4 rfl rfl)
theorem dX5_cross_75 : decode cX5_cross 75 = .ok (.getfield 7, 3) := dk_180 0 7 (dk_at dksX5_cross_3 5 rfl rfl)
theorem dX5_cross_78 : decode cX5_cross 78 = .ok (.bipush 46, 2) := dk_16 46 (dk_at dksX5_cross_3 8 rfl rfl)
theorem dX5_cross_80 : decode cX5_cross 80 = .ok (.iload_n 1, 1) := dk_27 (dk_at dksX5_cross_3 10 rfl rfl)
theorem dX5_cross_81 : decode cX5_cross 81 = .ok (.iadd, 1) := dk_96 (dk_at dksX5_cross_3 11 rfl rfl)
theorem dX5_cross_82 : decode cX5_cross 82 = .ok (.iaload, 1) := dk_46 (dk_at dksX5_cross_3 12 rfl rfl)
theorem dX5_cross_83 : decode cX5_cross 83 = .ok (.ireturn, 1) := dk_172 (dk_at dksX5_cross_3 13 rfl rfl)
abbrev cX5_draw : ByteArray := prog_15_method_37_code
def yX5_draw : MethodName := ⟨RX5, "draw", "(II)I"⟩
def dkwX5_draw_1 : List UInt8 := [167, 0, 5, 16, 254, 172]
abbrev dktX5_draw_1 : List UInt8 := dkwX5_draw_1 ++ []
def dkwX5_draw_0 : List UInt8 := [42, 27, 182, 0, 131, 153, 0, 22, 42, 28, 182, 0, 161, 153, 0, 14, 42, 7, 27, 96, 28, 182, 0, 164]
abbrev dktX5_draw_0 : List UInt8 := dkwX5_draw_0 ++ dktX5_draw_1
theorem dksX5_draw_0 : cX5_draw.data.toList.drop 0 = dktX5_draw_0 := by decide +kernel
theorem dksX5_draw_1 : cX5_draw.data.toList.drop 24 = dktX5_draw_1 := dk_seg dksX5_draw_0 24 rfl rfl
theorem dX5_draw_0 : decode cX5_draw 0 = .ok (.aload_n 0, 1) := dk_42 (dk_at dksX5_draw_0 0 rfl rfl)
theorem dX5_draw_1 : decode cX5_draw 1 = .ok (.iload_n 1, 1) := dk_27 (dk_at dksX5_draw_0 1 rfl rfl)
theorem dX5_draw_2 : decode cX5_draw 2 = .ok (.invokevirtual 131, 3) := dk_182 0 131 (dk_at dksX5_draw_0 2 rfl rfl)
theorem dX5_draw_5 : decode cX5_draw 5 = .ok (.ifCond .eq 22, 3) := dk_153 0 22 (dk_at dksX5_draw_0 5 rfl rfl)
theorem dX5_draw_8 : decode cX5_draw 8 = .ok (.aload_n 0, 1) := dk_42 (dk_at dksX5_draw_0 8 rfl rfl)
theorem dX5_draw_9 : decode cX5_draw 9 = .ok (.iload_n 2, 1) := dk_28 (dk_at dksX5_draw_0 9 rfl rfl)
theorem dX5_draw_10 : decode cX5_draw 10 = .ok (.invokevirtual 161, 3) := dk_182 0 161 (dk_at dksX5_draw_0 10 rfl rfl)
theorem dX5_draw_13 : decode cX5_draw 13 = .ok (.ifCond .eq 14, 3) := dk_153 0 14 (dk_at dksX5_draw_0 13 rfl rfl)
theorem dX5_draw_16 : decode cX5_draw 16 = .ok (.aload_n 0, 1) := dk_42 (dk_at dksX5_draw_0 16 rfl rfl)
theorem dX5_draw_17 : decode cX5_draw 17 = .ok (.iconst 4, 1) := dk_7 (dk_at dksX5_draw_0 17 rfl rfl)
theorem dX5_draw_18 : decode cX5_draw 18 = .ok (.iload_n 1, 1) := dk_27 (dk_at dksX5_draw_0 18 rfl rfl)
theorem dX5_draw_19 : decode cX5_draw 19 = .ok (.iadd, 1) := dk_96 (dk_at dksX5_draw_0 19 rfl rfl)
theorem dX5_draw_20 : decode cX5_draw 20 = .ok (.iload_n 2, 1) := dk_28 (dk_at dksX5_draw_0 20 rfl rfl)
theorem dX5_draw_21 : decode cX5_draw 21 = .ok (.invokevirtual 164, 3) := dk_182 0 164 (dk_at dksX5_draw_0 21 rfl rfl)
theorem dX5_draw_24 : decode cX5_draw 24 = .ok (.goto 5, 3) := dk_167 0 5 (dk_at dksX5_draw_1 0 rfl rfl)
theorem dX5_draw_27 : decode cX5_draw 27 = .ok (.bipush (-2), 2) := dk_16 254 (dk_at dksX5_draw_1 3 rfl rfl)
theorem dX5_draw_29 : decode cX5_draw 29 = .ok (.ireturn, 1) := dk_172 (dk_at dksX5_draw_1 5 rfl rfl)
abbrev cX5_isShaft : ByteArray := prog_15_method_24_code
def yX5_isShaft : MethodName := ⟨RX5, "isShaft", "(I)Z"⟩
def dkwX5_isShaft_0 : List UInt8 := [27, 133, 9, 42, 180, 0, 7, 5, 46, 4, 100, 133, 184, 0, 47, 172]
abbrev dktX5_isShaft_0 : List UInt8 := dkwX5_isShaft_0 ++ []
theorem dksX5_isShaft_0 : cX5_isShaft.data.toList.drop 0 = dktX5_isShaft_0 := by decide +kernel
theorem dX5_isShaft_0 : decode cX5_isShaft 0 = .ok (.iload_n 1, 1) := dk_27 (dk_at dksX5_isShaft_0 0 rfl rfl)
theorem dX5_isShaft_1 : decode cX5_isShaft 1 = .ok (.i2l, 1) := dk_133 (dk_at dksX5_isShaft_0 1 rfl rfl)
theorem dX5_isShaft_2 : decode cX5_isShaft 2 = .ok (.lconst 0, 1) := dk_9 (dk_at dksX5_isShaft_0 2 rfl rfl)
theorem dX5_isShaft_3 : decode cX5_isShaft 3 = .ok (.aload_n 0, 1) := dk_42 (dk_at dksX5_isShaft_0 3 rfl rfl)
theorem dX5_isShaft_4 : decode cX5_isShaft 4 = .ok (.getfield 7, 3) := dk_180 0 7 (dk_at dksX5_isShaft_0 4 rfl rfl)
theorem dX5_isShaft_7 : decode cX5_isShaft 7 = .ok (.iconst 2, 1) := dk_5 (dk_at dksX5_isShaft_0 7 rfl rfl)
theorem dX5_isShaft_8 : decode cX5_isShaft 8 = .ok (.iaload, 1) := dk_46 (dk_at dksX5_isShaft_0 8 rfl rfl)
theorem dX5_isShaft_9 : decode cX5_isShaft 9 = .ok (.iconst 1, 1) := dk_4 (dk_at dksX5_isShaft_0 9 rfl rfl)
theorem dX5_isShaft_10 : decode cX5_isShaft 10 = .ok (.isub, 1) := dk_100 (dk_at dksX5_isShaft_0 10 rfl rfl)
theorem dX5_isShaft_11 : decode cX5_isShaft 11 = .ok (.i2l, 1) := dk_133 (dk_at dksX5_isShaft_0 11 rfl rfl)
theorem dX5_isShaft_12 : decode cX5_isShaft 12 = .ok (.invokestatic 47, 3) := dk_184 0 47 (dk_at dksX5_isShaft_0 12 rfl rfl)
theorem dX5_isShaft_15 : decode cX5_isShaft 15 = .ok (.ireturn, 1) := dk_172 (dk_at dksX5_isShaft_0 15 rfl rfl)
abbrev cX5_lays : ByteArray := prog_15_method_36_code
def yX5_lays : MethodName := ⟨RX5, "lays", "(II)I"⟩
def dkwX5_lays_0 : List UInt8 := [42, 182, 0, 158, 42, 180, 0, 7, 27, 46, 62, 42, 180, 0, 7, 27, 28, 79, 29, 172]
abbrev dktX5_lays_0 : List UInt8 := dkwX5_lays_0 ++ []
theorem dksX5_lays_0 : cX5_lays.data.toList.drop 0 = dktX5_lays_0 := by decide +kernel
theorem dX5_lays_0 : decode cX5_lays 0 = .ok (.aload_n 0, 1) := dk_42 (dk_at dksX5_lays_0 0 rfl rfl)
theorem dX5_lays_1 : decode cX5_lays 1 = .ok (.invokevirtual 158, 3) := dk_182 0 158 (dk_at dksX5_lays_0 1 rfl rfl)
theorem dX5_lays_4 : decode cX5_lays 4 = .ok (.aload_n 0, 1) := dk_42 (dk_at dksX5_lays_0 4 rfl rfl)
theorem dX5_lays_5 : decode cX5_lays 5 = .ok (.getfield 7, 3) := dk_180 0 7 (dk_at dksX5_lays_0 5 rfl rfl)
theorem dX5_lays_8 : decode cX5_lays 8 = .ok (.iload_n 1, 1) := dk_27 (dk_at dksX5_lays_0 8 rfl rfl)
theorem dX5_lays_9 : decode cX5_lays 9 = .ok (.iaload, 1) := dk_46 (dk_at dksX5_lays_0 9 rfl rfl)
theorem dX5_lays_10 : decode cX5_lays 10 = .ok (.istore_n 3, 1) := dk_62 (dk_at dksX5_lays_0 10 rfl rfl)
theorem dX5_lays_11 : decode cX5_lays 11 = .ok (.aload_n 0, 1) := dk_42 (dk_at dksX5_lays_0 11 rfl rfl)
theorem dX5_lays_12 : decode cX5_lays 12 = .ok (.getfield 7, 3) := dk_180 0 7 (dk_at dksX5_lays_0 12 rfl rfl)
theorem dX5_lays_15 : decode cX5_lays 15 = .ok (.iload_n 1, 1) := dk_27 (dk_at dksX5_lays_0 15 rfl rfl)
theorem dX5_lays_16 : decode cX5_lays 16 = .ok (.iload_n 2, 1) := dk_28 (dk_at dksX5_lays_0 16 rfl rfl)
theorem dX5_lays_17 : decode cX5_lays 17 = .ok (.iastore, 1) := dk_79 (dk_at dksX5_lays_0 17 rfl rfl)
theorem dX5_lays_18 : decode cX5_lays 18 = .ok (.iload_n 3, 1) := dk_29 (dk_at dksX5_lays_0 18 rfl rfl)
theorem dX5_lays_19 : decode cX5_lays 19 = .ok (.ireturn, 1) := dk_172 (dk_at dksX5_lays_0 19 rfl rfl)
abbrev cX5_keepPast : ByteArray := prog_15_method_35_code
def yX5_keepPast : MethodName := ⟨RX5, "keepPast", "()V"⟩
def dkwX5_keepPast_3 : List UInt8 := [180, 0, 121, 104, 96, 182, 0, 154, 42, 89, 180, 0, 121, 4, 96, 181, 0, 121, 177]
abbrev dktX5_keepPast_3 : List UInt8 := dkwX5_keepPast_3 ++ []
def dkwX5_keepPast_2 : List UInt8 := [180, 0, 121, 16, 8, 160, 0, 7, 4, 167, 0, 4, 3, 100, 181, 0, 121, 42, 3, 16, 58, 16, 58, 42]
abbrev dktX5_keepPast_2 : List UInt8 := dkwX5_keepPast_2 ++ dktX5_keepPast_3
def dkwX5_keepPast_1 : List UInt8 := [27, 96, 42, 180, 0, 7, 16, 116, 27, 96, 46, 79, 132, 1, 1, 167, 255, 219, 42, 89, 180, 0, 121, 42]
abbrev dktX5_keepPast_1 : List UInt8 := dkwX5_keepPast_1 ++ dktX5_keepPast_2
def dkwX5_keepPast_0 : List UInt8 := [3, 60, 27, 17, 1, 150, 162, 0, 36, 42, 180, 0, 121, 16, 8, 160, 0, 27, 42, 180, 0, 7, 16, 58]
abbrev dktX5_keepPast_0 : List UInt8 := dkwX5_keepPast_0 ++ dktX5_keepPast_1
theorem dksX5_keepPast_0 : cX5_keepPast.data.toList.drop 0 = dktX5_keepPast_0 := by decide +kernel
theorem dksX5_keepPast_1 : cX5_keepPast.data.toList.drop 24 = dktX5_keepPast_1 := dk_seg dksX5_keepPast_0 24 rfl rfl
theorem dksX5_keepPast_2 : cX5_keepPast.data.toList.drop 48 = dktX5_keepPast_2 := dk_seg dksX5_keepPast_1 24 rfl rfl
theorem dksX5_keepPast_3 : cX5_keepPast.data.toList.drop 72 = dktX5_keepPast_3 := dk_seg dksX5_keepPast_2 24 rfl rfl
theorem dX5_keepPast_0 : decode cX5_keepPast 0 = .ok (.iconst 0, 1) := dk_3 (dk_at dksX5_keepPast_0 0 rfl rfl)
theorem dX5_keepPast_1 : decode cX5_keepPast 1 = .ok (.istore_n 1, 1) := dk_60 (dk_at dksX5_keepPast_0 1 rfl rfl)
theorem dX5_keepPast_2 : decode cX5_keepPast 2 = .ok (.iload_n 1, 1) := dk_27 (dk_at dksX5_keepPast_0 2 rfl rfl)
theorem dX5_keepPast_3 : decode cX5_keepPast 3 = .ok (.sipush 406, 3) := dk_17 1 150 (dk_at dksX5_keepPast_0 3 rfl rfl)
theorem dX5_keepPast_6 : decode cX5_keepPast 6 = .ok (.if_icmp .ge 36, 3) := dk_162 0 36 (dk_at dksX5_keepPast_0 6 rfl rfl)
theorem dX5_keepPast_9 : decode cX5_keepPast 9 = .ok (.aload_n 0, 1) := dk_42 (dk_at dksX5_keepPast_0 9 rfl rfl)
theorem dX5_keepPast_10 : decode cX5_keepPast 10 = .ok (.getfield 121, 3) := dk_180 0 121 (dk_at dksX5_keepPast_0 10 rfl rfl)
theorem dX5_keepPast_13 : decode cX5_keepPast 13 = .ok (.bipush 8, 2) := dk_16 8 (dk_at dksX5_keepPast_0 13 rfl rfl)
theorem dX5_keepPast_15 : decode cX5_keepPast 15 = .ok (.if_icmp .ne 27, 3) := dk_160 0 27 (dk_at dksX5_keepPast_0 15 rfl rfl)
theorem dX5_keepPast_18 : decode cX5_keepPast 18 = .ok (.aload_n 0, 1) := dk_42 (dk_at dksX5_keepPast_0 18 rfl rfl)
theorem dX5_keepPast_19 : decode cX5_keepPast 19 = .ok (.getfield 7, 3) := dk_180 0 7 (dk_at dksX5_keepPast_0 19 rfl rfl)
theorem dX5_keepPast_22 : decode cX5_keepPast 22 = .ok (.bipush 58, 2) := dk_16 58 (dk_at dksX5_keepPast_0 22 rfl rfl)
theorem dX5_keepPast_24 : decode cX5_keepPast 24 = .ok (.iload_n 1, 1) := dk_27 (dk_at dksX5_keepPast_1 0 rfl rfl)
theorem dX5_keepPast_25 : decode cX5_keepPast 25 = .ok (.iadd, 1) := dk_96 (dk_at dksX5_keepPast_1 1 rfl rfl)
theorem dX5_keepPast_26 : decode cX5_keepPast 26 = .ok (.aload_n 0, 1) := dk_42 (dk_at dksX5_keepPast_1 2 rfl rfl)
theorem dX5_keepPast_27 : decode cX5_keepPast 27 = .ok (.getfield 7, 3) := dk_180 0 7 (dk_at dksX5_keepPast_1 3 rfl rfl)
theorem dX5_keepPast_30 : decode cX5_keepPast 30 = .ok (.bipush 116, 2) := dk_16 116 (dk_at dksX5_keepPast_1 6 rfl rfl)
theorem dX5_keepPast_32 : decode cX5_keepPast 32 = .ok (.iload_n 1, 1) := dk_27 (dk_at dksX5_keepPast_1 8 rfl rfl)
theorem dX5_keepPast_33 : decode cX5_keepPast 33 = .ok (.iadd, 1) := dk_96 (dk_at dksX5_keepPast_1 9 rfl rfl)
theorem dX5_keepPast_34 : decode cX5_keepPast 34 = .ok (.iaload, 1) := dk_46 (dk_at dksX5_keepPast_1 10 rfl rfl)
theorem dX5_keepPast_35 : decode cX5_keepPast 35 = .ok (.iastore, 1) := dk_79 (dk_at dksX5_keepPast_1 11 rfl rfl)
theorem dX5_keepPast_36 : decode cX5_keepPast 36 = .ok (.iinc 1 1, 3) := dk_132 1 1 (dk_at dksX5_keepPast_1 12 rfl rfl)
theorem dX5_keepPast_39 : decode cX5_keepPast 39 = .ok (.goto (-37), 3) := dk_167 255 219 (dk_at dksX5_keepPast_1 15 rfl rfl)
theorem dX5_keepPast_42 : decode cX5_keepPast 42 = .ok (.aload_n 0, 1) := dk_42 (dk_at dksX5_keepPast_1 18 rfl rfl)
theorem dX5_keepPast_43 : decode cX5_keepPast 43 = .ok (.dup, 1) := dk_89 (dk_at dksX5_keepPast_1 19 rfl rfl)
theorem dX5_keepPast_44 : decode cX5_keepPast 44 = .ok (.getfield 121, 3) := dk_180 0 121 (dk_at dksX5_keepPast_1 20 rfl rfl)
theorem dX5_keepPast_47 : decode cX5_keepPast 47 = .ok (.aload_n 0, 1) := dk_42 (dk_at dksX5_keepPast_1 23 rfl rfl)
theorem dX5_keepPast_48 : decode cX5_keepPast 48 = .ok (.getfield 121, 3) := dk_180 0 121 (dk_at dksX5_keepPast_2 0 rfl rfl)
theorem dX5_keepPast_51 : decode cX5_keepPast 51 = .ok (.bipush 8, 2) := dk_16 8 (dk_at dksX5_keepPast_2 3 rfl rfl)
theorem dX5_keepPast_53 : decode cX5_keepPast 53 = .ok (.if_icmp .ne 7, 3) := dk_160 0 7 (dk_at dksX5_keepPast_2 5 rfl rfl)
theorem dX5_keepPast_56 : decode cX5_keepPast 56 = .ok (.iconst 1, 1) := dk_4 (dk_at dksX5_keepPast_2 8 rfl rfl)
theorem dX5_keepPast_57 : decode cX5_keepPast 57 = .ok (.goto 4, 3) := dk_167 0 4 (dk_at dksX5_keepPast_2 9 rfl rfl)
theorem dX5_keepPast_60 : decode cX5_keepPast 60 = .ok (.iconst 0, 1) := dk_3 (dk_at dksX5_keepPast_2 12 rfl rfl)
theorem dX5_keepPast_61 : decode cX5_keepPast 61 = .ok (.isub, 1) := dk_100 (dk_at dksX5_keepPast_2 13 rfl rfl)
theorem dX5_keepPast_62 : decode cX5_keepPast 62 = .ok (.putfield 121, 3) := dk_181 0 121 (dk_at dksX5_keepPast_2 14 rfl rfl)
theorem dX5_keepPast_65 : decode cX5_keepPast 65 = .ok (.aload_n 0, 1) := dk_42 (dk_at dksX5_keepPast_2 17 rfl rfl)
theorem dX5_keepPast_66 : decode cX5_keepPast 66 = .ok (.iconst 0, 1) := dk_3 (dk_at dksX5_keepPast_2 18 rfl rfl)
theorem dX5_keepPast_67 : decode cX5_keepPast 67 = .ok (.bipush 58, 2) := dk_16 58 (dk_at dksX5_keepPast_2 19 rfl rfl)
theorem dX5_keepPast_69 : decode cX5_keepPast 69 = .ok (.bipush 58, 2) := dk_16 58 (dk_at dksX5_keepPast_2 21 rfl rfl)
theorem dX5_keepPast_71 : decode cX5_keepPast 71 = .ok (.aload_n 0, 1) := dk_42 (dk_at dksX5_keepPast_2 23 rfl rfl)
theorem dX5_keepPast_72 : decode cX5_keepPast 72 = .ok (.getfield 121, 3) := dk_180 0 121 (dk_at dksX5_keepPast_3 0 rfl rfl)
theorem dX5_keepPast_75 : decode cX5_keepPast 75 = .ok (.imul, 1) := dk_104 (dk_at dksX5_keepPast_3 3 rfl rfl)
theorem dX5_keepPast_76 : decode cX5_keepPast 76 = .ok (.iadd, 1) := dk_96 (dk_at dksX5_keepPast_3 4 rfl rfl)
theorem dX5_keepPast_77 : decode cX5_keepPast 77 = .ok (.invokevirtual 154, 3) := dk_182 0 154 (dk_at dksX5_keepPast_3 5 rfl rfl)
theorem dX5_keepPast_80 : decode cX5_keepPast 80 = .ok (.aload_n 0, 1) := dk_42 (dk_at dksX5_keepPast_3 8 rfl rfl)
theorem dX5_keepPast_81 : decode cX5_keepPast 81 = .ok (.dup, 1) := dk_89 (dk_at dksX5_keepPast_3 9 rfl rfl)
theorem dX5_keepPast_82 : decode cX5_keepPast 82 = .ok (.getfield 121, 3) := dk_180 0 121 (dk_at dksX5_keepPast_3 10 rfl rfl)
theorem dX5_keepPast_85 : decode cX5_keepPast 85 = .ok (.iconst 1, 1) := dk_4 (dk_at dksX5_keepPast_3 13 rfl rfl)
theorem dX5_keepPast_86 : decode cX5_keepPast 86 = .ok (.iadd, 1) := dk_96 (dk_at dksX5_keepPast_3 14 rfl rfl)
theorem dX5_keepPast_87 : decode cX5_keepPast 87 = .ok (.putfield 121, 3) := dk_181 0 121 (dk_at dksX5_keepPast_3 15 rfl rfl)
theorem dX5_keepPast_90 : decode cX5_keepPast 90 = .ok (.return_, 1) := dk_177 (dk_at dksX5_keepPast_3 18 rfl rfl)
abbrev cX5_copyRow : ByteArray := prog_15_method_5_code
def yX5_copyRow : MethodName := ⟨RX5, "copyRow", "(II)V"⟩
def dkwX5_copyRow_1 : List UInt8 := [132, 3, 1, 167, 255, 231, 177]
abbrev dktX5_copyRow_1 : List UInt8 := dkwX5_copyRow_1 ++ []
def dkwX5_copyRow_0 : List UInt8 := [3, 62, 29, 16, 58, 162, 0, 25, 42, 180, 0, 7, 28, 29, 96, 42, 180, 0, 7, 27, 29, 96, 46, 79]
abbrev dktX5_copyRow_0 : List UInt8 := dkwX5_copyRow_0 ++ dktX5_copyRow_1
theorem dksX5_copyRow_0 : cX5_copyRow.data.toList.drop 0 = dktX5_copyRow_0 := by decide +kernel
theorem dksX5_copyRow_1 : cX5_copyRow.data.toList.drop 24 = dktX5_copyRow_1 := dk_seg dksX5_copyRow_0 24 rfl rfl
theorem dX5_copyRow_0 : decode cX5_copyRow 0 = .ok (.iconst 0, 1) := dk_3 (dk_at dksX5_copyRow_0 0 rfl rfl)
theorem dX5_copyRow_1 : decode cX5_copyRow 1 = .ok (.istore_n 3, 1) := dk_62 (dk_at dksX5_copyRow_0 1 rfl rfl)
theorem dX5_copyRow_2 : decode cX5_copyRow 2 = .ok (.iload_n 3, 1) := dk_29 (dk_at dksX5_copyRow_0 2 rfl rfl)
theorem dX5_copyRow_3 : decode cX5_copyRow 3 = .ok (.bipush 58, 2) := dk_16 58 (dk_at dksX5_copyRow_0 3 rfl rfl)
theorem dX5_copyRow_5 : decode cX5_copyRow 5 = .ok (.if_icmp .ge 25, 3) := dk_162 0 25 (dk_at dksX5_copyRow_0 5 rfl rfl)
theorem dX5_copyRow_8 : decode cX5_copyRow 8 = .ok (.aload_n 0, 1) := dk_42 (dk_at dksX5_copyRow_0 8 rfl rfl)
theorem dX5_copyRow_9 : decode cX5_copyRow 9 = .ok (.getfield 7, 3) := dk_180 0 7 (dk_at dksX5_copyRow_0 9 rfl rfl)
theorem dX5_copyRow_12 : decode cX5_copyRow 12 = .ok (.iload_n 2, 1) := dk_28 (dk_at dksX5_copyRow_0 12 rfl rfl)
theorem dX5_copyRow_13 : decode cX5_copyRow 13 = .ok (.iload_n 3, 1) := dk_29 (dk_at dksX5_copyRow_0 13 rfl rfl)
theorem dX5_copyRow_14 : decode cX5_copyRow 14 = .ok (.iadd, 1) := dk_96 (dk_at dksX5_copyRow_0 14 rfl rfl)
theorem dX5_copyRow_15 : decode cX5_copyRow 15 = .ok (.aload_n 0, 1) := dk_42 (dk_at dksX5_copyRow_0 15 rfl rfl)
theorem dX5_copyRow_16 : decode cX5_copyRow 16 = .ok (.getfield 7, 3) := dk_180 0 7 (dk_at dksX5_copyRow_0 16 rfl rfl)
theorem dX5_copyRow_19 : decode cX5_copyRow 19 = .ok (.iload_n 1, 1) := dk_27 (dk_at dksX5_copyRow_0 19 rfl rfl)
theorem dX5_copyRow_20 : decode cX5_copyRow 20 = .ok (.iload_n 3, 1) := dk_29 (dk_at dksX5_copyRow_0 20 rfl rfl)
theorem dX5_copyRow_21 : decode cX5_copyRow 21 = .ok (.iadd, 1) := dk_96 (dk_at dksX5_copyRow_0 21 rfl rfl)
theorem dX5_copyRow_22 : decode cX5_copyRow 22 = .ok (.iaload, 1) := dk_46 (dk_at dksX5_copyRow_0 22 rfl rfl)
theorem dX5_copyRow_23 : decode cX5_copyRow 23 = .ok (.iastore, 1) := dk_79 (dk_at dksX5_copyRow_0 23 rfl rfl)
theorem dX5_copyRow_24 : decode cX5_copyRow 24 = .ok (.iinc 3 1, 3) := dk_132 3 1 (dk_at dksX5_copyRow_1 0 rfl rfl)
theorem dX5_copyRow_27 : decode cX5_copyRow 27 = .ok (.goto (-25), 3) := dk_167 255 231 (dk_at dksX5_copyRow_1 3 rfl rfl)
theorem dX5_copyRow_30 : decode cX5_copyRow 30 = .ok (.return_, 1) := dk_177 (dk_at dksX5_copyRow_1 6 rfl rfl)
abbrev cX5_tie : ByteArray := prog_15_method_38_code
def yX5_tie : MethodName := ⟨RX5, "tie", "(II)I"⟩
def dkwX5_tie_2 : List UInt8 := [96, 46, 172]
abbrev dktX5_tie_2 : List UInt8 := dkwX5_tie_2 ++ []
def dkwX5_tie_1 : List UInt8 := [42, 180, 0, 7, 16, 16, 27, 96, 46, 4, 28, 120, 130, 182, 0, 164, 87, 42, 180, 0, 7, 16, 16, 27]
abbrev dktX5_tie_1 : List UInt8 := dkwX5_tie_1 ++ dktX5_tie_2
def dkwX5_tie_0 : List UInt8 := [42, 27, 182, 0, 151, 153, 0, 11, 42, 28, 182, 0, 161, 154, 0, 6, 16, 254, 172, 42, 16, 16, 27, 96]
abbrev dktX5_tie_0 : List UInt8 := dkwX5_tie_0 ++ dktX5_tie_1
theorem dksX5_tie_0 : cX5_tie.data.toList.drop 0 = dktX5_tie_0 := by decide +kernel
theorem dksX5_tie_1 : cX5_tie.data.toList.drop 24 = dktX5_tie_1 := dk_seg dksX5_tie_0 24 rfl rfl
theorem dksX5_tie_2 : cX5_tie.data.toList.drop 48 = dktX5_tie_2 := dk_seg dksX5_tie_1 24 rfl rfl
theorem dX5_tie_0 : decode cX5_tie 0 = .ok (.aload_n 0, 1) := dk_42 (dk_at dksX5_tie_0 0 rfl rfl)
theorem dX5_tie_1 : decode cX5_tie 1 = .ok (.iload_n 1, 1) := dk_27 (dk_at dksX5_tie_0 1 rfl rfl)
theorem dX5_tie_2 : decode cX5_tie 2 = .ok (.invokevirtual 151, 3) := dk_182 0 151 (dk_at dksX5_tie_0 2 rfl rfl)
theorem dX5_tie_5 : decode cX5_tie 5 = .ok (.ifCond .eq 11, 3) := dk_153 0 11 (dk_at dksX5_tie_0 5 rfl rfl)
theorem dX5_tie_8 : decode cX5_tie 8 = .ok (.aload_n 0, 1) := dk_42 (dk_at dksX5_tie_0 8 rfl rfl)
theorem dX5_tie_9 : decode cX5_tie 9 = .ok (.iload_n 2, 1) := dk_28 (dk_at dksX5_tie_0 9 rfl rfl)
theorem dX5_tie_10 : decode cX5_tie 10 = .ok (.invokevirtual 161, 3) := dk_182 0 161 (dk_at dksX5_tie_0 10 rfl rfl)
theorem dX5_tie_13 : decode cX5_tie 13 = .ok (.ifCond .ne 6, 3) := dk_154 0 6 (dk_at dksX5_tie_0 13 rfl rfl)
theorem dX5_tie_16 : decode cX5_tie 16 = .ok (.bipush (-2), 2) := dk_16 254 (dk_at dksX5_tie_0 16 rfl rfl)
theorem dX5_tie_18 : decode cX5_tie 18 = .ok (.ireturn, 1) := dk_172 (dk_at dksX5_tie_0 18 rfl rfl)
theorem dX5_tie_19 : decode cX5_tie 19 = .ok (.aload_n 0, 1) := dk_42 (dk_at dksX5_tie_0 19 rfl rfl)
theorem dX5_tie_20 : decode cX5_tie 20 = .ok (.bipush 16, 2) := dk_16 16 (dk_at dksX5_tie_0 20 rfl rfl)
theorem dX5_tie_22 : decode cX5_tie 22 = .ok (.iload_n 1, 1) := dk_27 (dk_at dksX5_tie_0 22 rfl rfl)
theorem dX5_tie_23 : decode cX5_tie 23 = .ok (.iadd, 1) := dk_96 (dk_at dksX5_tie_0 23 rfl rfl)
theorem dX5_tie_24 : decode cX5_tie 24 = .ok (.aload_n 0, 1) := dk_42 (dk_at dksX5_tie_1 0 rfl rfl)
theorem dX5_tie_25 : decode cX5_tie 25 = .ok (.getfield 7, 3) := dk_180 0 7 (dk_at dksX5_tie_1 1 rfl rfl)
theorem dX5_tie_28 : decode cX5_tie 28 = .ok (.bipush 16, 2) := dk_16 16 (dk_at dksX5_tie_1 4 rfl rfl)
theorem dX5_tie_30 : decode cX5_tie 30 = .ok (.iload_n 1, 1) := dk_27 (dk_at dksX5_tie_1 6 rfl rfl)
theorem dX5_tie_31 : decode cX5_tie 31 = .ok (.iadd, 1) := dk_96 (dk_at dksX5_tie_1 7 rfl rfl)
theorem dX5_tie_32 : decode cX5_tie 32 = .ok (.iaload, 1) := dk_46 (dk_at dksX5_tie_1 8 rfl rfl)
theorem dX5_tie_33 : decode cX5_tie 33 = .ok (.iconst 1, 1) := dk_4 (dk_at dksX5_tie_1 9 rfl rfl)
theorem dX5_tie_34 : decode cX5_tie 34 = .ok (.iload_n 2, 1) := dk_28 (dk_at dksX5_tie_1 10 rfl rfl)
theorem dX5_tie_35 : decode cX5_tie 35 = .ok (.ishl, 1) := dk_120 (dk_at dksX5_tie_1 11 rfl rfl)
theorem dX5_tie_36 : decode cX5_tie 36 = .ok (.ixor, 1) := dk_130 (dk_at dksX5_tie_1 12 rfl rfl)
theorem dX5_tie_37 : decode cX5_tie 37 = .ok (.invokevirtual 164, 3) := dk_182 0 164 (dk_at dksX5_tie_1 13 rfl rfl)
theorem dX5_tie_40 : decode cX5_tie 40 = .ok (.pop, 1) := dk_87 (dk_at dksX5_tie_1 16 rfl rfl)
theorem dX5_tie_41 : decode cX5_tie 41 = .ok (.aload_n 0, 1) := dk_42 (dk_at dksX5_tie_1 17 rfl rfl)
theorem dX5_tie_42 : decode cX5_tie 42 = .ok (.getfield 7, 3) := dk_180 0 7 (dk_at dksX5_tie_1 18 rfl rfl)
theorem dX5_tie_45 : decode cX5_tie 45 = .ok (.bipush 16, 2) := dk_16 16 (dk_at dksX5_tie_1 21 rfl rfl)
theorem dX5_tie_47 : decode cX5_tie 47 = .ok (.iload_n 1, 1) := dk_27 (dk_at dksX5_tie_1 23 rfl rfl)
theorem dX5_tie_48 : decode cX5_tie 48 = .ok (.iadd, 1) := dk_96 (dk_at dksX5_tie_2 0 rfl rfl)
theorem dX5_tie_49 : decode cX5_tie 49 = .ok (.iaload, 1) := dk_46 (dk_at dksX5_tie_2 1 rfl rfl)
theorem dX5_tie_50 : decode cX5_tie 50 = .ok (.ireturn, 1) := dk_172 (dk_at dksX5_tie_2 2 rfl rfl)
abbrev cX5_tread : ByteArray := prog_15_method_39_code
def yX5_tread : MethodName := ⟨RX5, "tread", "(II)I"⟩
def dkwX5_tread_1 : List UInt8 := [182, 0, 164, 167, 0, 5, 16, 254, 172]
abbrev dktX5_tread_1 : List UInt8 := dkwX5_tread_1 ++ []
def dkwX5_tread_0 : List UInt8 := [42, 27, 182, 0, 142, 153, 0, 23, 42, 28, 182, 0, 151, 153, 0, 15, 42, 16, 22, 27, 96, 28]
abbrev dktX5_tread_0 : List UInt8 := dkwX5_tread_0 ++ dktX5_tread_1
theorem dksX5_tread_0 : cX5_tread.data.toList.drop 0 = dktX5_tread_0 := by decide +kernel
theorem dksX5_tread_1 : cX5_tread.data.toList.drop 22 = dktX5_tread_1 := dk_seg dksX5_tread_0 22 rfl rfl
theorem dX5_tread_0 : decode cX5_tread 0 = .ok (.aload_n 0, 1) := dk_42 (dk_at dksX5_tread_0 0 rfl rfl)
theorem dX5_tread_1 : decode cX5_tread 1 = .ok (.iload_n 1, 1) := dk_27 (dk_at dksX5_tread_0 1 rfl rfl)
theorem dX5_tread_2 : decode cX5_tread 2 = .ok (.invokevirtual 142, 3) := dk_182 0 142 (dk_at dksX5_tread_0 2 rfl rfl)
theorem dX5_tread_5 : decode cX5_tread 5 = .ok (.ifCond .eq 23, 3) := dk_153 0 23 (dk_at dksX5_tread_0 5 rfl rfl)
theorem dX5_tread_8 : decode cX5_tread 8 = .ok (.aload_n 0, 1) := dk_42 (dk_at dksX5_tread_0 8 rfl rfl)
theorem dX5_tread_9 : decode cX5_tread 9 = .ok (.iload_n 2, 1) := dk_28 (dk_at dksX5_tread_0 9 rfl rfl)
theorem dX5_tread_10 : decode cX5_tread 10 = .ok (.invokevirtual 151, 3) := dk_182 0 151 (dk_at dksX5_tread_0 10 rfl rfl)
theorem dX5_tread_13 : decode cX5_tread 13 = .ok (.ifCond .eq 15, 3) := dk_153 0 15 (dk_at dksX5_tread_0 13 rfl rfl)
theorem dX5_tread_16 : decode cX5_tread 16 = .ok (.aload_n 0, 1) := dk_42 (dk_at dksX5_tread_0 16 rfl rfl)
theorem dX5_tread_17 : decode cX5_tread 17 = .ok (.bipush 22, 2) := dk_16 22 (dk_at dksX5_tread_0 17 rfl rfl)
theorem dX5_tread_19 : decode cX5_tread 19 = .ok (.iload_n 1, 1) := dk_27 (dk_at dksX5_tread_0 19 rfl rfl)
theorem dX5_tread_20 : decode cX5_tread 20 = .ok (.iadd, 1) := dk_96 (dk_at dksX5_tread_0 20 rfl rfl)
theorem dX5_tread_21 : decode cX5_tread 21 = .ok (.iload_n 2, 1) := dk_28 (dk_at dksX5_tread_0 21 rfl rfl)
theorem dX5_tread_22 : decode cX5_tread 22 = .ok (.invokevirtual 164, 3) := dk_182 0 164 (dk_at dksX5_tread_1 0 rfl rfl)
theorem dX5_tread_25 : decode cX5_tread 25 = .ok (.goto 5, 3) := dk_167 0 5 (dk_at dksX5_tread_1 3 rfl rfl)
theorem dX5_tread_28 : decode cX5_tread 28 = .ok (.bipush (-2), 2) := dk_16 254 (dk_at dksX5_tread_1 6 rfl rfl)
theorem dX5_tread_30 : decode cX5_tread 30 = .ok (.ireturn, 1) := dk_172 (dk_at dksX5_tread_1 8 rfl rfl)
abbrev cX5_warp : ByteArray := prog_15_method_40_code
def yX5_warp : MethodName := ⟨RX5, "warp", "(II)I"⟩
def dkwX5_warp_1 : List UInt8 := [153, 0, 15, 42, 16, 34, 27, 96, 28, 182, 0, 164, 167, 0, 5, 16, 253, 172]
abbrev dktX5_warp_1 : List UInt8 := dkwX5_warp_1 ++ []
def dkwX5_warp_0 : List UInt8 := [42, 27, 182, 0, 131, 154, 0, 8, 16, 254, 167, 0, 29, 28, 133, 9, 20, 0, 168, 184, 0, 47]
abbrev dktX5_warp_0 : List UInt8 := dkwX5_warp_0 ++ dktX5_warp_1
theorem dksX5_warp_0 : cX5_warp.data.toList.drop 0 = dktX5_warp_0 := by decide +kernel
theorem dksX5_warp_1 : cX5_warp.data.toList.drop 22 = dktX5_warp_1 := dk_seg dksX5_warp_0 22 rfl rfl
theorem dX5_warp_0 : decode cX5_warp 0 = .ok (.aload_n 0, 1) := dk_42 (dk_at dksX5_warp_0 0 rfl rfl)
theorem dX5_warp_1 : decode cX5_warp 1 = .ok (.iload_n 1, 1) := dk_27 (dk_at dksX5_warp_0 1 rfl rfl)
theorem dX5_warp_2 : decode cX5_warp 2 = .ok (.invokevirtual 131, 3) := dk_182 0 131 (dk_at dksX5_warp_0 2 rfl rfl)
theorem dX5_warp_5 : decode cX5_warp 5 = .ok (.ifCond .ne 8, 3) := dk_154 0 8 (dk_at dksX5_warp_0 5 rfl rfl)
theorem dX5_warp_8 : decode cX5_warp 8 = .ok (.bipush (-2), 2) := dk_16 254 (dk_at dksX5_warp_0 8 rfl rfl)
theorem dX5_warp_10 : decode cX5_warp 10 = .ok (.goto 29, 3) := dk_167 0 29 (dk_at dksX5_warp_0 10 rfl rfl)
theorem dX5_warp_13 : decode cX5_warp 13 = .ok (.iload_n 2, 1) := dk_28 (dk_at dksX5_warp_0 13 rfl rfl)
theorem dX5_warp_14 : decode cX5_warp 14 = .ok (.i2l, 1) := dk_133 (dk_at dksX5_warp_0 14 rfl rfl)
theorem dX5_warp_15 : decode cX5_warp 15 = .ok (.lconst 0, 1) := dk_9 (dk_at dksX5_warp_0 15 rfl rfl)
theorem dX5_warp_16 : decode cX5_warp 16 = .ok (.ldc2_w 168, 3) := dk_20 0 168 (dk_at dksX5_warp_0 16 rfl rfl)
theorem dX5_warp_19 : decode cX5_warp 19 = .ok (.invokestatic 47, 3) := dk_184 0 47 (dk_at dksX5_warp_0 19 rfl rfl)
theorem dX5_warp_22 : decode cX5_warp 22 = .ok (.ifCond .eq 15, 3) := dk_153 0 15 (dk_at dksX5_warp_1 0 rfl rfl)
theorem dX5_warp_25 : decode cX5_warp 25 = .ok (.aload_n 0, 1) := dk_42 (dk_at dksX5_warp_1 3 rfl rfl)
theorem dX5_warp_26 : decode cX5_warp 26 = .ok (.bipush 34, 2) := dk_16 34 (dk_at dksX5_warp_1 4 rfl rfl)
theorem dX5_warp_28 : decode cX5_warp 28 = .ok (.iload_n 1, 1) := dk_27 (dk_at dksX5_warp_1 6 rfl rfl)
theorem dX5_warp_29 : decode cX5_warp 29 = .ok (.iadd, 1) := dk_96 (dk_at dksX5_warp_1 7 rfl rfl)
theorem dX5_warp_30 : decode cX5_warp 30 = .ok (.iload_n 2, 1) := dk_28 (dk_at dksX5_warp_1 8 rfl rfl)
theorem dX5_warp_31 : decode cX5_warp 31 = .ok (.invokevirtual 164, 3) := dk_182 0 164 (dk_at dksX5_warp_1 9 rfl rfl)
theorem dX5_warp_34 : decode cX5_warp 34 = .ok (.goto 5, 3) := dk_167 0 5 (dk_at dksX5_warp_1 12 rfl rfl)
theorem dX5_warp_37 : decode cX5_warp 37 = .ok (.bipush (-3), 2) := dk_16 253 (dk_at dksX5_warp_1 15 rfl rfl)
theorem dX5_warp_39 : decode cX5_warp 39 = .ok (.ireturn, 1) := dk_172 (dk_at dksX5_warp_1 17 rfl rfl)
abbrev cX5_weft : ByteArray := prog_15_method_41_code
def yX5_weft : MethodName := ⟨RX5, "weft", "(II)I"⟩
def dkwX5_weft_1 : List UInt8 := [153, 0, 15, 42, 16, 46, 27, 96, 28, 182, 0, 164, 167, 0, 5, 16, 253, 172]
abbrev dktX5_weft_1 : List UInt8 := dkwX5_weft_1 ++ []
def dkwX5_weft_0 : List UInt8 := [42, 27, 182, 0, 142, 154, 0, 8, 16, 254, 167, 0, 29, 28, 133, 9, 20, 0, 168, 184, 0, 47]
abbrev dktX5_weft_0 : List UInt8 := dkwX5_weft_0 ++ dktX5_weft_1
theorem dksX5_weft_0 : cX5_weft.data.toList.drop 0 = dktX5_weft_0 := by decide +kernel
theorem dksX5_weft_1 : cX5_weft.data.toList.drop 22 = dktX5_weft_1 := dk_seg dksX5_weft_0 22 rfl rfl
theorem dX5_weft_0 : decode cX5_weft 0 = .ok (.aload_n 0, 1) := dk_42 (dk_at dksX5_weft_0 0 rfl rfl)
theorem dX5_weft_1 : decode cX5_weft 1 = .ok (.iload_n 1, 1) := dk_27 (dk_at dksX5_weft_0 1 rfl rfl)
theorem dX5_weft_2 : decode cX5_weft 2 = .ok (.invokevirtual 142, 3) := dk_182 0 142 (dk_at dksX5_weft_0 2 rfl rfl)
theorem dX5_weft_5 : decode cX5_weft 5 = .ok (.ifCond .ne 8, 3) := dk_154 0 8 (dk_at dksX5_weft_0 5 rfl rfl)
theorem dX5_weft_8 : decode cX5_weft 8 = .ok (.bipush (-2), 2) := dk_16 254 (dk_at dksX5_weft_0 8 rfl rfl)
theorem dX5_weft_10 : decode cX5_weft 10 = .ok (.goto 29, 3) := dk_167 0 29 (dk_at dksX5_weft_0 10 rfl rfl)
theorem dX5_weft_13 : decode cX5_weft 13 = .ok (.iload_n 2, 1) := dk_28 (dk_at dksX5_weft_0 13 rfl rfl)
theorem dX5_weft_14 : decode cX5_weft 14 = .ok (.i2l, 1) := dk_133 (dk_at dksX5_weft_0 14 rfl rfl)
theorem dX5_weft_15 : decode cX5_weft 15 = .ok (.lconst 0, 1) := dk_9 (dk_at dksX5_weft_0 15 rfl rfl)
theorem dX5_weft_16 : decode cX5_weft 16 = .ok (.ldc2_w 168, 3) := dk_20 0 168 (dk_at dksX5_weft_0 16 rfl rfl)
theorem dX5_weft_19 : decode cX5_weft 19 = .ok (.invokestatic 47, 3) := dk_184 0 47 (dk_at dksX5_weft_0 19 rfl rfl)
theorem dX5_weft_22 : decode cX5_weft 22 = .ok (.ifCond .eq 15, 3) := dk_153 0 15 (dk_at dksX5_weft_1 0 rfl rfl)
theorem dX5_weft_25 : decode cX5_weft 25 = .ok (.aload_n 0, 1) := dk_42 (dk_at dksX5_weft_1 3 rfl rfl)
theorem dX5_weft_26 : decode cX5_weft 26 = .ok (.bipush 46, 2) := dk_16 46 (dk_at dksX5_weft_1 4 rfl rfl)
theorem dX5_weft_28 : decode cX5_weft 28 = .ok (.iload_n 1, 1) := dk_27 (dk_at dksX5_weft_1 6 rfl rfl)
theorem dX5_weft_29 : decode cX5_weft 29 = .ok (.iadd, 1) := dk_96 (dk_at dksX5_weft_1 7 rfl rfl)
theorem dX5_weft_30 : decode cX5_weft 30 = .ok (.iload_n 2, 1) := dk_28 (dk_at dksX5_weft_1 8 rfl rfl)
theorem dX5_weft_31 : decode cX5_weft 31 = .ok (.invokevirtual 164, 3) := dk_182 0 164 (dk_at dksX5_weft_1 9 rfl rfl)
theorem dX5_weft_34 : decode cX5_weft 34 = .ok (.goto 5, 3) := dk_167 0 5 (dk_at dksX5_weft_1 12 rfl rfl)
theorem dX5_weft_37 : decode cX5_weft 37 = .ok (.bipush (-3), 2) := dk_16 253 (dk_at dksX5_weft_1 15 rfl rfl)
theorem dX5_weft_39 : decode cX5_weft 39 = .ok (.ireturn, 1) := dk_172 (dk_at dksX5_weft_1 17 rfl rfl)
abbrev cX5_sample : ByteArray := prog_15_method_47_code
def yX5_sample : MethodName := ⟨RX5, "sample", "()I"⟩
def dkwX5_sample_8 : List UInt8 := [132, 3, 1, 167, 255, 171, 27, 172]
abbrev dktX5_sample_8 : List UInt8 := dkwX5_sample_8 ++ []
def dkwX5_sample_7 : List UInt8 := [153, 0, 14, 4, 42, 21, 4, 182, 0, 173, 120, 167, 0, 4, 3, 128, 79, 132, 4, 1, 167, 255, 202]
abbrev dktX5_sample_7 : List UInt8 := dkwX5_sample_7 ++ dktX5_sample_8
def dkwX5_sample_6 : List UInt8 := [180, 0, 7, 16, 16, 42, 29, 182, 0, 176, 96, 92, 46, 42, 180, 0, 13, 29, 46, 21, 4, 184, 0, 124]
abbrev dktX5_sample_6 : List UInt8 := dkwX5_sample_6 ++ dktX5_sample_7
def dkwX5_sample_5 : List UInt8 := [16, 22, 29, 96, 42, 29, 182, 0, 176, 79, 3, 54, 4, 21, 4, 42, 180, 0, 90, 162, 0, 51, 42]
abbrev dktX5_sample_5 : List UInt8 := dkwX5_sample_5 ++ dktX5_sample_6
def dkwX5_sample_4 : List UInt8 := [182, 0, 173, 79, 132, 3, 1, 167, 255, 232, 3, 62, 29, 42, 180, 0, 87, 162, 0, 83, 42, 180, 0, 7]
abbrev dktX5_sample_4 : List UInt8 := dkwX5_sample_4 ++ dktX5_sample_5
def dkwX5_sample_3 : List UInt8 := [167, 255, 237, 3, 62, 29, 42, 180, 0, 90, 162, 0, 22, 42, 180, 0, 7, 7, 29, 96, 42, 29]
abbrev dktX5_sample_3 : List UInt8 := dkwX5_sample_3 ++ dktX5_sample_4
def dkwX5_sample_2 : List UInt8 := [182, 0, 41, 3, 62, 29, 16, 6, 162, 0, 19, 42, 180, 0, 7, 16, 16, 29, 96, 3, 79, 132, 3, 1]
abbrev dktX5_sample_2 : List UInt8 := dkwX5_sample_2 ++ dktX5_sample_3
def dkwX5_sample_1 : List UInt8 := [16, 6, 164, 0, 6, 16, 252, 172, 42, 182, 0, 158, 42, 42, 180, 0, 90, 42, 180, 0, 87, 27, 28]
abbrev dktX5_sample_1 : List UInt8 := dkwX5_sample_1 ++ dktX5_sample_2
def dkwX5_sample_0 : List UInt8 := [42, 182, 0, 179, 60, 42, 182, 0, 182, 61, 42, 180, 0, 87, 153, 0, 15, 27, 16, 6, 163, 0, 9, 28]
abbrev dktX5_sample_0 : List UInt8 := dkwX5_sample_0 ++ dktX5_sample_1
theorem dksX5_sample_0 : cX5_sample.data.toList.drop 0 = dktX5_sample_0 := by decide +kernel
theorem dksX5_sample_1 : cX5_sample.data.toList.drop 24 = dktX5_sample_1 := dk_seg dksX5_sample_0 24 rfl rfl
theorem dksX5_sample_2 : cX5_sample.data.toList.drop 47 = dktX5_sample_2 := dk_seg dksX5_sample_1 23 rfl rfl
theorem dksX5_sample_3 : cX5_sample.data.toList.drop 71 = dktX5_sample_3 := dk_seg dksX5_sample_2 24 rfl rfl
theorem dksX5_sample_4 : cX5_sample.data.toList.drop 93 = dktX5_sample_4 := dk_seg dksX5_sample_3 22 rfl rfl
theorem dksX5_sample_5 : cX5_sample.data.toList.drop 117 = dktX5_sample_5 := dk_seg dksX5_sample_4 24 rfl rfl
theorem dksX5_sample_6 : cX5_sample.data.toList.drop 140 = dktX5_sample_6 := dk_seg dksX5_sample_5 23 rfl rfl
theorem dksX5_sample_7 : cX5_sample.data.toList.drop 164 = dktX5_sample_7 := dk_seg dksX5_sample_6 24 rfl rfl
theorem dksX5_sample_8 : cX5_sample.data.toList.drop 187 = dktX5_sample_8 := dk_seg dksX5_sample_7 23 rfl rfl
theorem dX5_sample_0 : decode cX5_sample 0 = .ok (.aload_n 0, 1) := dk_42 (dk_at dksX5_sample_0 0 rfl rfl)
theorem dX5_sample_1 : decode cX5_sample 1 = .ok (.invokevirtual 179, 3) := dk_182 0 179 (dk_at dksX5_sample_0 1 rfl rfl)
theorem dX5_sample_4 : decode cX5_sample 4 = .ok (.istore_n 1, 1) := dk_60 (dk_at dksX5_sample_0 4 rfl rfl)
theorem dX5_sample_5 : decode cX5_sample 5 = .ok (.aload_n 0, 1) := dk_42 (dk_at dksX5_sample_0 5 rfl rfl)
theorem dX5_sample_6 : decode cX5_sample 6 = .ok (.invokevirtual 182, 3) := dk_182 0 182 (dk_at dksX5_sample_0 6 rfl rfl)
theorem dX5_sample_9 : decode cX5_sample 9 = .ok (.istore_n 2, 1) := dk_61 (dk_at dksX5_sample_0 9 rfl rfl)
theorem dX5_sample_10 : decode cX5_sample 10 = .ok (.aload_n 0, 1) := dk_42 (dk_at dksX5_sample_0 10 rfl rfl)
theorem dX5_sample_11 : decode cX5_sample 11 = .ok (.getfield 87, 3) := dk_180 0 87 (dk_at dksX5_sample_0 11 rfl rfl)
theorem dX5_sample_14 : decode cX5_sample 14 = .ok (.ifCond .eq 15, 3) := dk_153 0 15 (dk_at dksX5_sample_0 14 rfl rfl)
theorem dX5_sample_17 : decode cX5_sample 17 = .ok (.iload_n 1, 1) := dk_27 (dk_at dksX5_sample_0 17 rfl rfl)
theorem dX5_sample_18 : decode cX5_sample 18 = .ok (.bipush 6, 2) := dk_16 6 (dk_at dksX5_sample_0 18 rfl rfl)
theorem dX5_sample_20 : decode cX5_sample 20 = .ok (.if_icmp .gt 9, 3) := dk_163 0 9 (dk_at dksX5_sample_0 20 rfl rfl)
theorem dX5_sample_23 : decode cX5_sample 23 = .ok (.iload_n 2, 1) := dk_28 (dk_at dksX5_sample_0 23 rfl rfl)
theorem dX5_sample_24 : decode cX5_sample 24 = .ok (.bipush 6, 2) := dk_16 6 (dk_at dksX5_sample_1 0 rfl rfl)
theorem dX5_sample_26 : decode cX5_sample 26 = .ok (.if_icmp .le 6, 3) := dk_164 0 6 (dk_at dksX5_sample_1 2 rfl rfl)
theorem dX5_sample_29 : decode cX5_sample 29 = .ok (.bipush (-4), 2) := dk_16 252 (dk_at dksX5_sample_1 5 rfl rfl)
theorem dX5_sample_31 : decode cX5_sample 31 = .ok (.ireturn, 1) := dk_172 (dk_at dksX5_sample_1 7 rfl rfl)
theorem dX5_sample_32 : decode cX5_sample 32 = .ok (.aload_n 0, 1) := dk_42 (dk_at dksX5_sample_1 8 rfl rfl)
theorem dX5_sample_33 : decode cX5_sample 33 = .ok (.invokevirtual 158, 3) := dk_182 0 158 (dk_at dksX5_sample_1 9 rfl rfl)
theorem dX5_sample_36 : decode cX5_sample 36 = .ok (.aload_n 0, 1) := dk_42 (dk_at dksX5_sample_1 12 rfl rfl)
theorem dX5_sample_37 : decode cX5_sample 37 = .ok (.aload_n 0, 1) := dk_42 (dk_at dksX5_sample_1 13 rfl rfl)
theorem dX5_sample_38 : decode cX5_sample 38 = .ok (.getfield 90, 3) := dk_180 0 90 (dk_at dksX5_sample_1 14 rfl rfl)
theorem dX5_sample_41 : decode cX5_sample 41 = .ok (.aload_n 0, 1) := dk_42 (dk_at dksX5_sample_1 17 rfl rfl)
theorem dX5_sample_42 : decode cX5_sample 42 = .ok (.getfield 87, 3) := dk_180 0 87 (dk_at dksX5_sample_1 18 rfl rfl)
theorem dX5_sample_45 : decode cX5_sample 45 = .ok (.iload_n 1, 1) := dk_27 (dk_at dksX5_sample_1 21 rfl rfl)
theorem dX5_sample_46 : decode cX5_sample 46 = .ok (.iload_n 2, 1) := dk_28 (dk_at dksX5_sample_1 22 rfl rfl)
theorem dX5_sample_47 : decode cX5_sample 47 = .ok (.invokevirtual 41, 3) := dk_182 0 41 (dk_at dksX5_sample_2 0 rfl rfl)
theorem dX5_sample_50 : decode cX5_sample 50 = .ok (.iconst 0, 1) := dk_3 (dk_at dksX5_sample_2 3 rfl rfl)
theorem dX5_sample_51 : decode cX5_sample 51 = .ok (.istore_n 3, 1) := dk_62 (dk_at dksX5_sample_2 4 rfl rfl)
theorem dX5_sample_52 : decode cX5_sample 52 = .ok (.iload_n 3, 1) := dk_29 (dk_at dksX5_sample_2 5 rfl rfl)
theorem dX5_sample_53 : decode cX5_sample 53 = .ok (.bipush 6, 2) := dk_16 6 (dk_at dksX5_sample_2 6 rfl rfl)
theorem dX5_sample_55 : decode cX5_sample 55 = .ok (.if_icmp .ge 19, 3) := dk_162 0 19 (dk_at dksX5_sample_2 8 rfl rfl)
theorem dX5_sample_58 : decode cX5_sample 58 = .ok (.aload_n 0, 1) := dk_42 (dk_at dksX5_sample_2 11 rfl rfl)
theorem dX5_sample_59 : decode cX5_sample 59 = .ok (.getfield 7, 3) := dk_180 0 7 (dk_at dksX5_sample_2 12 rfl rfl)
theorem dX5_sample_62 : decode cX5_sample 62 = .ok (.bipush 16, 2) := dk_16 16 (dk_at dksX5_sample_2 15 rfl rfl)
theorem dX5_sample_64 : decode cX5_sample 64 = .ok (.iload_n 3, 1) := dk_29 (dk_at dksX5_sample_2 17 rfl rfl)
theorem dX5_sample_65 : decode cX5_sample 65 = .ok (.iadd, 1) := dk_96 (dk_at dksX5_sample_2 18 rfl rfl)
theorem dX5_sample_66 : decode cX5_sample 66 = .ok (.iconst 0, 1) := dk_3 (dk_at dksX5_sample_2 19 rfl rfl)
theorem dX5_sample_67 : decode cX5_sample 67 = .ok (.iastore, 1) := dk_79 (dk_at dksX5_sample_2 20 rfl rfl)
theorem dX5_sample_68 : decode cX5_sample 68 = .ok (.iinc 3 1, 3) := dk_132 3 1 (dk_at dksX5_sample_2 21 rfl rfl)
theorem dX5_sample_71 : decode cX5_sample 71 = .ok (.goto (-19), 3) := dk_167 255 237 (dk_at dksX5_sample_3 0 rfl rfl)
theorem dX5_sample_74 : decode cX5_sample 74 = .ok (.iconst 0, 1) := dk_3 (dk_at dksX5_sample_3 3 rfl rfl)
theorem dX5_sample_75 : decode cX5_sample 75 = .ok (.istore_n 3, 1) := dk_62 (dk_at dksX5_sample_3 4 rfl rfl)
theorem dX5_sample_76 : decode cX5_sample 76 = .ok (.iload_n 3, 1) := dk_29 (dk_at dksX5_sample_3 5 rfl rfl)
theorem dX5_sample_77 : decode cX5_sample 77 = .ok (.aload_n 0, 1) := dk_42 (dk_at dksX5_sample_3 6 rfl rfl)
theorem dX5_sample_78 : decode cX5_sample 78 = .ok (.getfield 90, 3) := dk_180 0 90 (dk_at dksX5_sample_3 7 rfl rfl)
theorem dX5_sample_81 : decode cX5_sample 81 = .ok (.if_icmp .ge 22, 3) := dk_162 0 22 (dk_at dksX5_sample_3 10 rfl rfl)
theorem dX5_sample_84 : decode cX5_sample 84 = .ok (.aload_n 0, 1) := dk_42 (dk_at dksX5_sample_3 13 rfl rfl)
theorem dX5_sample_85 : decode cX5_sample 85 = .ok (.getfield 7, 3) := dk_180 0 7 (dk_at dksX5_sample_3 14 rfl rfl)
theorem dX5_sample_88 : decode cX5_sample 88 = .ok (.iconst 4, 1) := dk_7 (dk_at dksX5_sample_3 17 rfl rfl)
theorem dX5_sample_89 : decode cX5_sample 89 = .ok (.iload_n 3, 1) := dk_29 (dk_at dksX5_sample_3 18 rfl rfl)
theorem dX5_sample_90 : decode cX5_sample 90 = .ok (.iadd, 1) := dk_96 (dk_at dksX5_sample_3 19 rfl rfl)
theorem dX5_sample_91 : decode cX5_sample 91 = .ok (.aload_n 0, 1) := dk_42 (dk_at dksX5_sample_3 20 rfl rfl)
theorem dX5_sample_92 : decode cX5_sample 92 = .ok (.iload_n 3, 1) := dk_29 (dk_at dksX5_sample_3 21 rfl rfl)
theorem dX5_sample_93 : decode cX5_sample 93 = .ok (.invokevirtual 173, 3) := dk_182 0 173 (dk_at dksX5_sample_4 0 rfl rfl)
theorem dX5_sample_96 : decode cX5_sample 96 = .ok (.iastore, 1) := dk_79 (dk_at dksX5_sample_4 3 rfl rfl)
theorem dX5_sample_97 : decode cX5_sample 97 = .ok (.iinc 3 1, 3) := dk_132 3 1 (dk_at dksX5_sample_4 4 rfl rfl)
theorem dX5_sample_100 : decode cX5_sample 100 = .ok (.goto (-24), 3) := dk_167 255 232 (dk_at dksX5_sample_4 7 rfl rfl)
theorem dX5_sample_103 : decode cX5_sample 103 = .ok (.iconst 0, 1) := dk_3 (dk_at dksX5_sample_4 10 rfl rfl)
theorem dX5_sample_104 : decode cX5_sample 104 = .ok (.istore_n 3, 1) := dk_62 (dk_at dksX5_sample_4 11 rfl rfl)
theorem dX5_sample_105 : decode cX5_sample 105 = .ok (.iload_n 3, 1) := dk_29 (dk_at dksX5_sample_4 12 rfl rfl)
theorem dX5_sample_106 : decode cX5_sample 106 = .ok (.aload_n 0, 1) := dk_42 (dk_at dksX5_sample_4 13 rfl rfl)
theorem dX5_sample_107 : decode cX5_sample 107 = .ok (.getfield 87, 3) := dk_180 0 87 (dk_at dksX5_sample_4 14 rfl rfl)
theorem dX5_sample_110 : decode cX5_sample 110 = .ok (.if_icmp .ge 83, 3) := dk_162 0 83 (dk_at dksX5_sample_4 17 rfl rfl)
theorem dX5_sample_113 : decode cX5_sample 113 = .ok (.aload_n 0, 1) := dk_42 (dk_at dksX5_sample_4 20 rfl rfl)
theorem dX5_sample_114 : decode cX5_sample 114 = .ok (.getfield 7, 3) := dk_180 0 7 (dk_at dksX5_sample_4 21 rfl rfl)
theorem dX5_sample_117 : decode cX5_sample 117 = .ok (.bipush 22, 2) := dk_16 22 (dk_at dksX5_sample_5 0 rfl rfl)
theorem dX5_sample_119 : decode cX5_sample 119 = .ok (.iload_n 3, 1) := dk_29 (dk_at dksX5_sample_5 2 rfl rfl)
theorem dX5_sample_120 : decode cX5_sample 120 = .ok (.iadd, 1) := dk_96 (dk_at dksX5_sample_5 3 rfl rfl)
theorem dX5_sample_121 : decode cX5_sample 121 = .ok (.aload_n 0, 1) := dk_42 (dk_at dksX5_sample_5 4 rfl rfl)
theorem dX5_sample_122 : decode cX5_sample 122 = .ok (.iload_n 3, 1) := dk_29 (dk_at dksX5_sample_5 5 rfl rfl)
theorem dX5_sample_123 : decode cX5_sample 123 = .ok (.invokevirtual 176, 3) := dk_182 0 176 (dk_at dksX5_sample_5 6 rfl rfl)
theorem dX5_sample_126 : decode cX5_sample 126 = .ok (.iastore, 1) := dk_79 (dk_at dksX5_sample_5 9 rfl rfl)
theorem dX5_sample_127 : decode cX5_sample 127 = .ok (.iconst 0, 1) := dk_3 (dk_at dksX5_sample_5 10 rfl rfl)
theorem dX5_sample_128 : decode cX5_sample 128 = .ok (.istore 4, 2) := dk_54 4 (dk_at dksX5_sample_5 11 rfl rfl)
theorem dX5_sample_130 : decode cX5_sample 130 = .ok (.iload 4, 2) := dk_21 4 (dk_at dksX5_sample_5 13 rfl rfl)
theorem dX5_sample_132 : decode cX5_sample 132 = .ok (.aload_n 0, 1) := dk_42 (dk_at dksX5_sample_5 15 rfl rfl)
theorem dX5_sample_133 : decode cX5_sample 133 = .ok (.getfield 90, 3) := dk_180 0 90 (dk_at dksX5_sample_5 16 rfl rfl)
theorem dX5_sample_136 : decode cX5_sample 136 = .ok (.if_icmp .ge 51, 3) := dk_162 0 51 (dk_at dksX5_sample_5 19 rfl rfl)
theorem dX5_sample_139 : decode cX5_sample 139 = .ok (.aload_n 0, 1) := dk_42 (dk_at dksX5_sample_5 22 rfl rfl)
theorem dX5_sample_140 : decode cX5_sample 140 = .ok (.getfield 7, 3) := dk_180 0 7 (dk_at dksX5_sample_6 0 rfl rfl)
theorem dX5_sample_143 : decode cX5_sample 143 = .ok (.bipush 16, 2) := dk_16 16 (dk_at dksX5_sample_6 3 rfl rfl)
theorem dX5_sample_145 : decode cX5_sample 145 = .ok (.aload_n 0, 1) := dk_42 (dk_at dksX5_sample_6 5 rfl rfl)
theorem dX5_sample_146 : decode cX5_sample 146 = .ok (.iload_n 3, 1) := dk_29 (dk_at dksX5_sample_6 6 rfl rfl)
theorem dX5_sample_147 : decode cX5_sample 147 = .ok (.invokevirtual 176, 3) := dk_182 0 176 (dk_at dksX5_sample_6 7 rfl rfl)
theorem dX5_sample_150 : decode cX5_sample 150 = .ok (.iadd, 1) := dk_96 (dk_at dksX5_sample_6 10 rfl rfl)
theorem dX5_sample_151 : decode cX5_sample 151 = .ok (.dup2, 1) := dk_92 (dk_at dksX5_sample_6 11 rfl rfl)
theorem dX5_sample_152 : decode cX5_sample 152 = .ok (.iaload, 1) := dk_46 (dk_at dksX5_sample_6 12 rfl rfl)
theorem dX5_sample_153 : decode cX5_sample 153 = .ok (.aload_n 0, 1) := dk_42 (dk_at dksX5_sample_6 13 rfl rfl)
theorem dX5_sample_154 : decode cX5_sample 154 = .ok (.getfield 13, 3) := dk_180 0 13 (dk_at dksX5_sample_6 14 rfl rfl)
theorem dX5_sample_157 : decode cX5_sample 157 = .ok (.iload_n 3, 1) := dk_29 (dk_at dksX5_sample_6 17 rfl rfl)
theorem dX5_sample_158 : decode cX5_sample 158 = .ok (.iaload, 1) := dk_46 (dk_at dksX5_sample_6 18 rfl rfl)
theorem dX5_sample_159 : decode cX5_sample 159 = .ok (.iload 4, 2) := dk_21 4 (dk_at dksX5_sample_6 19 rfl rfl)
theorem dX5_sample_161 : decode cX5_sample 161 = .ok (.invokestatic 124, 3) := dk_184 0 124 (dk_at dksX5_sample_6 21 rfl rfl)
theorem dX5_sample_164 : decode cX5_sample 164 = .ok (.ifCond .eq 14, 3) := dk_153 0 14 (dk_at dksX5_sample_7 0 rfl rfl)
theorem dX5_sample_167 : decode cX5_sample 167 = .ok (.iconst 1, 1) := dk_4 (dk_at dksX5_sample_7 3 rfl rfl)
theorem dX5_sample_168 : decode cX5_sample 168 = .ok (.aload_n 0, 1) := dk_42 (dk_at dksX5_sample_7 4 rfl rfl)
theorem dX5_sample_169 : decode cX5_sample 169 = .ok (.iload 4, 2) := dk_21 4 (dk_at dksX5_sample_7 5 rfl rfl)
theorem dX5_sample_171 : decode cX5_sample 171 = .ok (.invokevirtual 173, 3) := dk_182 0 173 (dk_at dksX5_sample_7 7 rfl rfl)
theorem dX5_sample_174 : decode cX5_sample 174 = .ok (.ishl, 1) := dk_120 (dk_at dksX5_sample_7 10 rfl rfl)
theorem dX5_sample_175 : decode cX5_sample 175 = .ok (.goto 4, 3) := dk_167 0 4 (dk_at dksX5_sample_7 11 rfl rfl)
theorem dX5_sample_178 : decode cX5_sample 178 = .ok (.iconst 0, 1) := dk_3 (dk_at dksX5_sample_7 14 rfl rfl)
theorem dX5_sample_179 : decode cX5_sample 179 = .ok (.ior, 1) := dk_128 (dk_at dksX5_sample_7 15 rfl rfl)
theorem dX5_sample_180 : decode cX5_sample 180 = .ok (.iastore, 1) := dk_79 (dk_at dksX5_sample_7 16 rfl rfl)
theorem dX5_sample_181 : decode cX5_sample 181 = .ok (.iinc 4 1, 3) := dk_132 4 1 (dk_at dksX5_sample_7 17 rfl rfl)
theorem dX5_sample_184 : decode cX5_sample 184 = .ok (.goto (-54), 3) := dk_167 255 202 (dk_at dksX5_sample_7 20 rfl rfl)
theorem dX5_sample_187 : decode cX5_sample 187 = .ok (.iinc 3 1, 3) := dk_132 3 1 (dk_at dksX5_sample_8 0 rfl rfl)
theorem dX5_sample_190 : decode cX5_sample 190 = .ok (.goto (-85), 3) := dk_167 255 171 (dk_at dksX5_sample_8 3 rfl rfl)
theorem dX5_sample_193 : decode cX5_sample 193 = .ok (.iload_n 1, 1) := dk_27 (dk_at dksX5_sample_8 6 rfl rfl)
theorem dX5_sample_194 : decode cX5_sample 194 = .ok (.ireturn, 1) := dk_172 (dk_at dksX5_sample_8 7 rfl rfl)
abbrev cX5_leastShafts : ByteArray := prog_15_method_45_code
def yX5_leastShafts : MethodName := ⟨RX5, "leastShafts", "()I"⟩
def dkwX5_leastShafts_1 : List UInt8 := [182, 0, 173, 4, 96, 167, 0, 4, 27, 60, 132, 2, 1, 167, 255, 224, 27, 172]
abbrev dktX5_leastShafts_1 : List UInt8 := dkwX5_leastShafts_1 ++ []
def dkwX5_leastShafts_0 : List UInt8 := [3, 60, 3, 61, 28, 42, 180, 0, 90, 162, 0, 30, 42, 28, 182, 0, 173, 27, 161, 0, 13, 42, 28]
abbrev dktX5_leastShafts_0 : List UInt8 := dkwX5_leastShafts_0 ++ dktX5_leastShafts_1
theorem dksX5_leastShafts_0 : cX5_leastShafts.data.toList.drop 0 = dktX5_leastShafts_0 := by decide +kernel
theorem dksX5_leastShafts_1 : cX5_leastShafts.data.toList.drop 23 = dktX5_leastShafts_1 := dk_seg dksX5_leastShafts_0 23 rfl rfl
theorem dX5_leastShafts_0 : decode cX5_leastShafts 0 = .ok (.iconst 0, 1) := dk_3 (dk_at dksX5_leastShafts_0 0 rfl rfl)
theorem dX5_leastShafts_1 : decode cX5_leastShafts 1 = .ok (.istore_n 1, 1) := dk_60 (dk_at dksX5_leastShafts_0 1 rfl rfl)
theorem dX5_leastShafts_2 : decode cX5_leastShafts 2 = .ok (.iconst 0, 1) := dk_3 (dk_at dksX5_leastShafts_0 2 rfl rfl)
theorem dX5_leastShafts_3 : decode cX5_leastShafts 3 = .ok (.istore_n 2, 1) := dk_61 (dk_at dksX5_leastShafts_0 3 rfl rfl)
theorem dX5_leastShafts_4 : decode cX5_leastShafts 4 = .ok (.iload_n 2, 1) := dk_28 (dk_at dksX5_leastShafts_0 4 rfl rfl)
theorem dX5_leastShafts_5 : decode cX5_leastShafts 5 = .ok (.aload_n 0, 1) := dk_42 (dk_at dksX5_leastShafts_0 5 rfl rfl)
theorem dX5_leastShafts_6 : decode cX5_leastShafts 6 = .ok (.getfield 90, 3) := dk_180 0 90 (dk_at dksX5_leastShafts_0 6 rfl rfl)
theorem dX5_leastShafts_9 : decode cX5_leastShafts 9 = .ok (.if_icmp .ge 30, 3) := dk_162 0 30 (dk_at dksX5_leastShafts_0 9 rfl rfl)
theorem dX5_leastShafts_12 : decode cX5_leastShafts 12 = .ok (.aload_n 0, 1) := dk_42 (dk_at dksX5_leastShafts_0 12 rfl rfl)
theorem dX5_leastShafts_13 : decode cX5_leastShafts 13 = .ok (.iload_n 2, 1) := dk_28 (dk_at dksX5_leastShafts_0 13 rfl rfl)
theorem dX5_leastShafts_14 : decode cX5_leastShafts 14 = .ok (.invokevirtual 173, 3) := dk_182 0 173 (dk_at dksX5_leastShafts_0 14 rfl rfl)
theorem dX5_leastShafts_17 : decode cX5_leastShafts 17 = .ok (.iload_n 1, 1) := dk_27 (dk_at dksX5_leastShafts_0 17 rfl rfl)
theorem dX5_leastShafts_18 : decode cX5_leastShafts 18 = .ok (.if_icmp .lt 13, 3) := dk_161 0 13 (dk_at dksX5_leastShafts_0 18 rfl rfl)
theorem dX5_leastShafts_21 : decode cX5_leastShafts 21 = .ok (.aload_n 0, 1) := dk_42 (dk_at dksX5_leastShafts_0 21 rfl rfl)
theorem dX5_leastShafts_22 : decode cX5_leastShafts 22 = .ok (.iload_n 2, 1) := dk_28 (dk_at dksX5_leastShafts_0 22 rfl rfl)
theorem dX5_leastShafts_23 : decode cX5_leastShafts 23 = .ok (.invokevirtual 173, 3) := dk_182 0 173 (dk_at dksX5_leastShafts_1 0 rfl rfl)
theorem dX5_leastShafts_26 : decode cX5_leastShafts 26 = .ok (.iconst 1, 1) := dk_4 (dk_at dksX5_leastShafts_1 3 rfl rfl)
theorem dX5_leastShafts_27 : decode cX5_leastShafts 27 = .ok (.iadd, 1) := dk_96 (dk_at dksX5_leastShafts_1 4 rfl rfl)
theorem dX5_leastShafts_28 : decode cX5_leastShafts 28 = .ok (.goto 4, 3) := dk_167 0 4 (dk_at dksX5_leastShafts_1 5 rfl rfl)
theorem dX5_leastShafts_31 : decode cX5_leastShafts 31 = .ok (.iload_n 1, 1) := dk_27 (dk_at dksX5_leastShafts_1 8 rfl rfl)
theorem dX5_leastShafts_32 : decode cX5_leastShafts 32 = .ok (.istore_n 1, 1) := dk_60 (dk_at dksX5_leastShafts_1 9 rfl rfl)
theorem dX5_leastShafts_33 : decode cX5_leastShafts 33 = .ok (.iinc 2 1, 3) := dk_132 2 1 (dk_at dksX5_leastShafts_1 10 rfl rfl)
theorem dX5_leastShafts_36 : decode cX5_leastShafts 36 = .ok (.goto (-32), 3) := dk_167 255 224 (dk_at dksX5_leastShafts_1 13 rfl rfl)
theorem dX5_leastShafts_39 : decode cX5_leastShafts 39 = .ok (.iload_n 1, 1) := dk_27 (dk_at dksX5_leastShafts_1 16 rfl rfl)
theorem dX5_leastShafts_40 : decode cX5_leastShafts 40 = .ok (.ireturn, 1) := dk_172 (dk_at dksX5_leastShafts_1 17 rfl rfl)
abbrev cX5_shaftOf : ByteArray := prog_15_method_43_code
def yX5_shaftOf : MethodName := ⟨RX5, "shaftOf", "(I)I"⟩
def dkwX5_shaftOf_3 : List UInt8 := [21, 4, 153, 0, 7, 4, 167, 0, 4, 3, 96, 61, 132, 3, 1, 167, 255, 173, 28, 172]
abbrev dktX5_shaftOf_3 : List UInt8 := dkwX5_shaftOf_3 ++ []
def dkwX5_shaftOf_2 : List UInt8 := [54, 4, 132, 5, 1, 167, 255, 221, 42, 29, 182, 0, 170, 42, 27, 182, 0, 170, 160, 0, 5, 28, 172, 28]
abbrev dktX5_shaftOf_2 : List UInt8 := dkwX5_shaftOf_2 ++ dktX5_shaftOf_3
def dkwX5_shaftOf_1 : List UInt8 := [21, 4, 153, 0, 21, 42, 21, 5, 182, 0, 170, 42, 29, 182, 0, 170, 159, 0, 7, 4, 167, 0, 4, 3]
abbrev dktX5_shaftOf_1 : List UInt8 := dkwX5_shaftOf_1 ++ dktX5_shaftOf_2
def dkwX5_shaftOf_0 : List UInt8 := [3, 61, 3, 62, 29, 42, 180, 0, 90, 162, 0, 81, 4, 54, 4, 3, 54, 5, 21, 5, 29, 162, 0, 35]
abbrev dktX5_shaftOf_0 : List UInt8 := dkwX5_shaftOf_0 ++ dktX5_shaftOf_1
theorem dksX5_shaftOf_0 : cX5_shaftOf.data.toList.drop 0 = dktX5_shaftOf_0 := by decide +kernel
theorem dksX5_shaftOf_1 : cX5_shaftOf.data.toList.drop 24 = dktX5_shaftOf_1 := dk_seg dksX5_shaftOf_0 24 rfl rfl
theorem dksX5_shaftOf_2 : cX5_shaftOf.data.toList.drop 48 = dktX5_shaftOf_2 := dk_seg dksX5_shaftOf_1 24 rfl rfl
theorem dksX5_shaftOf_3 : cX5_shaftOf.data.toList.drop 72 = dktX5_shaftOf_3 := dk_seg dksX5_shaftOf_2 24 rfl rfl
theorem dX5_shaftOf_0 : decode cX5_shaftOf 0 = .ok (.iconst 0, 1) := dk_3 (dk_at dksX5_shaftOf_0 0 rfl rfl)
theorem dX5_shaftOf_1 : decode cX5_shaftOf 1 = .ok (.istore_n 2, 1) := dk_61 (dk_at dksX5_shaftOf_0 1 rfl rfl)
theorem dX5_shaftOf_2 : decode cX5_shaftOf 2 = .ok (.iconst 0, 1) := dk_3 (dk_at dksX5_shaftOf_0 2 rfl rfl)
theorem dX5_shaftOf_3 : decode cX5_shaftOf 3 = .ok (.istore_n 3, 1) := dk_62 (dk_at dksX5_shaftOf_0 3 rfl rfl)
theorem dX5_shaftOf_4 : decode cX5_shaftOf 4 = .ok (.iload_n 3, 1) := dk_29 (dk_at dksX5_shaftOf_0 4 rfl rfl)
theorem dX5_shaftOf_5 : decode cX5_shaftOf 5 = .ok (.aload_n 0, 1) := dk_42 (dk_at dksX5_shaftOf_0 5 rfl rfl)
theorem dX5_shaftOf_6 : decode cX5_shaftOf 6 = .ok (.getfield 90, 3) := dk_180 0 90 (dk_at dksX5_shaftOf_0 6 rfl rfl)
theorem dX5_shaftOf_9 : decode cX5_shaftOf 9 = .ok (.if_icmp .ge 81, 3) := dk_162 0 81 (dk_at dksX5_shaftOf_0 9 rfl rfl)
theorem dX5_shaftOf_12 : decode cX5_shaftOf 12 = .ok (.iconst 1, 1) := dk_4 (dk_at dksX5_shaftOf_0 12 rfl rfl)
theorem dX5_shaftOf_13 : decode cX5_shaftOf 13 = .ok (.istore 4, 2) := dk_54 4 (dk_at dksX5_shaftOf_0 13 rfl rfl)
theorem dX5_shaftOf_15 : decode cX5_shaftOf 15 = .ok (.iconst 0, 1) := dk_3 (dk_at dksX5_shaftOf_0 15 rfl rfl)
theorem dX5_shaftOf_16 : decode cX5_shaftOf 16 = .ok (.istore 5, 2) := dk_54 5 (dk_at dksX5_shaftOf_0 16 rfl rfl)
theorem dX5_shaftOf_18 : decode cX5_shaftOf 18 = .ok (.iload 5, 2) := dk_21 5 (dk_at dksX5_shaftOf_0 18 rfl rfl)
theorem dX5_shaftOf_20 : decode cX5_shaftOf 20 = .ok (.iload_n 3, 1) := dk_29 (dk_at dksX5_shaftOf_0 20 rfl rfl)
theorem dX5_shaftOf_21 : decode cX5_shaftOf 21 = .ok (.if_icmp .ge 35, 3) := dk_162 0 35 (dk_at dksX5_shaftOf_0 21 rfl rfl)
theorem dX5_shaftOf_24 : decode cX5_shaftOf 24 = .ok (.iload 4, 2) := dk_21 4 (dk_at dksX5_shaftOf_1 0 rfl rfl)
theorem dX5_shaftOf_26 : decode cX5_shaftOf 26 = .ok (.ifCond .eq 21, 3) := dk_153 0 21 (dk_at dksX5_shaftOf_1 2 rfl rfl)
theorem dX5_shaftOf_29 : decode cX5_shaftOf 29 = .ok (.aload_n 0, 1) := dk_42 (dk_at dksX5_shaftOf_1 5 rfl rfl)
theorem dX5_shaftOf_30 : decode cX5_shaftOf 30 = .ok (.iload 5, 2) := dk_21 5 (dk_at dksX5_shaftOf_1 6 rfl rfl)
theorem dX5_shaftOf_32 : decode cX5_shaftOf 32 = .ok (.invokevirtual 170, 3) := dk_182 0 170 (dk_at dksX5_shaftOf_1 8 rfl rfl)
theorem dX5_shaftOf_35 : decode cX5_shaftOf 35 = .ok (.aload_n 0, 1) := dk_42 (dk_at dksX5_shaftOf_1 11 rfl rfl)
theorem dX5_shaftOf_36 : decode cX5_shaftOf 36 = .ok (.iload_n 3, 1) := dk_29 (dk_at dksX5_shaftOf_1 12 rfl rfl)
theorem dX5_shaftOf_37 : decode cX5_shaftOf 37 = .ok (.invokevirtual 170, 3) := dk_182 0 170 (dk_at dksX5_shaftOf_1 13 rfl rfl)
theorem dX5_shaftOf_40 : decode cX5_shaftOf 40 = .ok (.if_icmp .eq 7, 3) := dk_159 0 7 (dk_at dksX5_shaftOf_1 16 rfl rfl)
theorem dX5_shaftOf_43 : decode cX5_shaftOf 43 = .ok (.iconst 1, 1) := dk_4 (dk_at dksX5_shaftOf_1 19 rfl rfl)
theorem dX5_shaftOf_44 : decode cX5_shaftOf 44 = .ok (.goto 4, 3) := dk_167 0 4 (dk_at dksX5_shaftOf_1 20 rfl rfl)
theorem dX5_shaftOf_47 : decode cX5_shaftOf 47 = .ok (.iconst 0, 1) := dk_3 (dk_at dksX5_shaftOf_1 23 rfl rfl)
theorem dX5_shaftOf_48 : decode cX5_shaftOf 48 = .ok (.istore 4, 2) := dk_54 4 (dk_at dksX5_shaftOf_2 0 rfl rfl)
theorem dX5_shaftOf_50 : decode cX5_shaftOf 50 = .ok (.iinc 5 1, 3) := dk_132 5 1 (dk_at dksX5_shaftOf_2 2 rfl rfl)
theorem dX5_shaftOf_53 : decode cX5_shaftOf 53 = .ok (.goto (-35), 3) := dk_167 255 221 (dk_at dksX5_shaftOf_2 5 rfl rfl)
theorem dX5_shaftOf_56 : decode cX5_shaftOf 56 = .ok (.aload_n 0, 1) := dk_42 (dk_at dksX5_shaftOf_2 8 rfl rfl)
theorem dX5_shaftOf_57 : decode cX5_shaftOf 57 = .ok (.iload_n 3, 1) := dk_29 (dk_at dksX5_shaftOf_2 9 rfl rfl)
theorem dX5_shaftOf_58 : decode cX5_shaftOf 58 = .ok (.invokevirtual 170, 3) := dk_182 0 170 (dk_at dksX5_shaftOf_2 10 rfl rfl)
theorem dX5_shaftOf_61 : decode cX5_shaftOf 61 = .ok (.aload_n 0, 1) := dk_42 (dk_at dksX5_shaftOf_2 13 rfl rfl)
theorem dX5_shaftOf_62 : decode cX5_shaftOf 62 = .ok (.iload_n 1, 1) := dk_27 (dk_at dksX5_shaftOf_2 14 rfl rfl)
theorem dX5_shaftOf_63 : decode cX5_shaftOf 63 = .ok (.invokevirtual 170, 3) := dk_182 0 170 (dk_at dksX5_shaftOf_2 15 rfl rfl)
theorem dX5_shaftOf_66 : decode cX5_shaftOf 66 = .ok (.if_icmp .ne 5, 3) := dk_160 0 5 (dk_at dksX5_shaftOf_2 18 rfl rfl)
theorem dX5_shaftOf_69 : decode cX5_shaftOf 69 = .ok (.iload_n 2, 1) := dk_28 (dk_at dksX5_shaftOf_2 21 rfl rfl)
theorem dX5_shaftOf_70 : decode cX5_shaftOf 70 = .ok (.ireturn, 1) := dk_172 (dk_at dksX5_shaftOf_2 22 rfl rfl)
theorem dX5_shaftOf_71 : decode cX5_shaftOf 71 = .ok (.iload_n 2, 1) := dk_28 (dk_at dksX5_shaftOf_2 23 rfl rfl)
theorem dX5_shaftOf_72 : decode cX5_shaftOf 72 = .ok (.iload 4, 2) := dk_21 4 (dk_at dksX5_shaftOf_3 0 rfl rfl)
theorem dX5_shaftOf_74 : decode cX5_shaftOf 74 = .ok (.ifCond .eq 7, 3) := dk_153 0 7 (dk_at dksX5_shaftOf_3 2 rfl rfl)
theorem dX5_shaftOf_77 : decode cX5_shaftOf 77 = .ok (.iconst 1, 1) := dk_4 (dk_at dksX5_shaftOf_3 5 rfl rfl)
theorem dX5_shaftOf_78 : decode cX5_shaftOf 78 = .ok (.goto 4, 3) := dk_167 0 4 (dk_at dksX5_shaftOf_3 6 rfl rfl)
theorem dX5_shaftOf_81 : decode cX5_shaftOf 81 = .ok (.iconst 0, 1) := dk_3 (dk_at dksX5_shaftOf_3 9 rfl rfl)
theorem dX5_shaftOf_82 : decode cX5_shaftOf 82 = .ok (.iadd, 1) := dk_96 (dk_at dksX5_shaftOf_3 10 rfl rfl)
theorem dX5_shaftOf_83 : decode cX5_shaftOf 83 = .ok (.istore_n 2, 1) := dk_61 (dk_at dksX5_shaftOf_3 11 rfl rfl)
theorem dX5_shaftOf_84 : decode cX5_shaftOf 84 = .ok (.iinc 3 1, 3) := dk_132 3 1 (dk_at dksX5_shaftOf_3 12 rfl rfl)
theorem dX5_shaftOf_87 : decode cX5_shaftOf 87 = .ok (.goto (-83), 3) := dk_167 255 173 (dk_at dksX5_shaftOf_3 15 rfl rfl)
theorem dX5_shaftOf_90 : decode cX5_shaftOf 90 = .ok (.iload_n 2, 1) := dk_28 (dk_at dksX5_shaftOf_3 18 rfl rfl)
theorem dX5_shaftOf_91 : decode cX5_shaftOf 91 = .ok (.ireturn, 1) := dk_172 (dk_at dksX5_shaftOf_3 19 rfl rfl)
abbrev cX5_column : ByteArray := prog_15_method_42_code
def yX5_column : MethodName := ⟨RX5, "column", "(I)I"⟩
def dkwX5_column_1 : List UInt8 := [153, 0, 9, 4, 29, 120, 167, 0, 4, 3, 128, 61, 132, 3, 1, 167, 255, 222, 28, 172]
abbrev dktX5_column_1 : List UInt8 := dkwX5_column_1 ++ []
def dkwX5_column_0 : List UInt8 := [3, 61, 3, 62, 29, 42, 180, 0, 87, 162, 0, 32, 28, 42, 180, 0, 13, 29, 46, 27, 184, 0, 124]
abbrev dktX5_column_0 : List UInt8 := dkwX5_column_0 ++ dktX5_column_1
theorem dksX5_column_0 : cX5_column.data.toList.drop 0 = dktX5_column_0 := by decide +kernel
theorem dksX5_column_1 : cX5_column.data.toList.drop 23 = dktX5_column_1 := dk_seg dksX5_column_0 23 rfl rfl
theorem dX5_column_0 : decode cX5_column 0 = .ok (.iconst 0, 1) := dk_3 (dk_at dksX5_column_0 0 rfl rfl)
theorem dX5_column_1 : decode cX5_column 1 = .ok (.istore_n 2, 1) := dk_61 (dk_at dksX5_column_0 1 rfl rfl)
theorem dX5_column_2 : decode cX5_column 2 = .ok (.iconst 0, 1) := dk_3 (dk_at dksX5_column_0 2 rfl rfl)
theorem dX5_column_3 : decode cX5_column 3 = .ok (.istore_n 3, 1) := dk_62 (dk_at dksX5_column_0 3 rfl rfl)
theorem dX5_column_4 : decode cX5_column 4 = .ok (.iload_n 3, 1) := dk_29 (dk_at dksX5_column_0 4 rfl rfl)
theorem dX5_column_5 : decode cX5_column 5 = .ok (.aload_n 0, 1) := dk_42 (dk_at dksX5_column_0 5 rfl rfl)
theorem dX5_column_6 : decode cX5_column 6 = .ok (.getfield 87, 3) := dk_180 0 87 (dk_at dksX5_column_0 6 rfl rfl)
theorem dX5_column_9 : decode cX5_column 9 = .ok (.if_icmp .ge 32, 3) := dk_162 0 32 (dk_at dksX5_column_0 9 rfl rfl)
theorem dX5_column_12 : decode cX5_column 12 = .ok (.iload_n 2, 1) := dk_28 (dk_at dksX5_column_0 12 rfl rfl)
theorem dX5_column_13 : decode cX5_column 13 = .ok (.aload_n 0, 1) := dk_42 (dk_at dksX5_column_0 13 rfl rfl)
theorem dX5_column_14 : decode cX5_column 14 = .ok (.getfield 13, 3) := dk_180 0 13 (dk_at dksX5_column_0 14 rfl rfl)
theorem dX5_column_17 : decode cX5_column 17 = .ok (.iload_n 3, 1) := dk_29 (dk_at dksX5_column_0 17 rfl rfl)
theorem dX5_column_18 : decode cX5_column 18 = .ok (.iaload, 1) := dk_46 (dk_at dksX5_column_0 18 rfl rfl)
theorem dX5_column_19 : decode cX5_column 19 = .ok (.iload_n 1, 1) := dk_27 (dk_at dksX5_column_0 19 rfl rfl)
theorem dX5_column_20 : decode cX5_column 20 = .ok (.invokestatic 124, 3) := dk_184 0 124 (dk_at dksX5_column_0 20 rfl rfl)
theorem dX5_column_23 : decode cX5_column 23 = .ok (.ifCond .eq 9, 3) := dk_153 0 9 (dk_at dksX5_column_1 0 rfl rfl)
theorem dX5_column_26 : decode cX5_column 26 = .ok (.iconst 1, 1) := dk_4 (dk_at dksX5_column_1 3 rfl rfl)
theorem dX5_column_27 : decode cX5_column 27 = .ok (.iload_n 3, 1) := dk_29 (dk_at dksX5_column_1 4 rfl rfl)
theorem dX5_column_28 : decode cX5_column 28 = .ok (.ishl, 1) := dk_120 (dk_at dksX5_column_1 5 rfl rfl)
theorem dX5_column_29 : decode cX5_column 29 = .ok (.goto 4, 3) := dk_167 0 4 (dk_at dksX5_column_1 6 rfl rfl)
theorem dX5_column_32 : decode cX5_column 32 = .ok (.iconst 0, 1) := dk_3 (dk_at dksX5_column_1 9 rfl rfl)
theorem dX5_column_33 : decode cX5_column 33 = .ok (.ior, 1) := dk_128 (dk_at dksX5_column_1 10 rfl rfl)
theorem dX5_column_34 : decode cX5_column 34 = .ok (.istore_n 2, 1) := dk_61 (dk_at dksX5_column_1 11 rfl rfl)
theorem dX5_column_35 : decode cX5_column 35 = .ok (.iinc 3 1, 3) := dk_132 3 1 (dk_at dksX5_column_1 12 rfl rfl)
theorem dX5_column_38 : decode cX5_column 38 = .ok (.goto (-34), 3) := dk_167 255 222 (dk_at dksX5_column_1 15 rfl rfl)
theorem dX5_column_41 : decode cX5_column 41 = .ok (.iload_n 2, 1) := dk_28 (dk_at dksX5_column_1 18 rfl rfl)
theorem dX5_column_42 : decode cX5_column 42 = .ok (.ireturn, 1) := dk_172 (dk_at dksX5_column_1 19 rfl rfl)
abbrev cX5_leastTreadles : ByteArray := prog_15_method_46_code
def yX5_leastTreadles : MethodName := ⟨RX5, "leastTreadles", "()I"⟩
def dkwX5_leastTreadles_1 : List UInt8 := [182, 0, 176, 4, 96, 167, 0, 4, 27, 60, 132, 2, 1, 167, 255, 224, 27, 172]
abbrev dktX5_leastTreadles_1 : List UInt8 := dkwX5_leastTreadles_1 ++ []
def dkwX5_leastTreadles_0 : List UInt8 := [3, 60, 3, 61, 28, 42, 180, 0, 87, 162, 0, 30, 42, 28, 182, 0, 176, 27, 161, 0, 13, 42, 28]
abbrev dktX5_leastTreadles_0 : List UInt8 := dkwX5_leastTreadles_0 ++ dktX5_leastTreadles_1
theorem dksX5_leastTreadles_0 : cX5_leastTreadles.data.toList.drop 0 = dktX5_leastTreadles_0 := by decide +kernel
theorem dksX5_leastTreadles_1 : cX5_leastTreadles.data.toList.drop 23 = dktX5_leastTreadles_1 := dk_seg dksX5_leastTreadles_0 23 rfl rfl
theorem dX5_leastTreadles_0 : decode cX5_leastTreadles 0 = .ok (.iconst 0, 1) := dk_3 (dk_at dksX5_leastTreadles_0 0 rfl rfl)
theorem dX5_leastTreadles_1 : decode cX5_leastTreadles 1 = .ok (.istore_n 1, 1) := dk_60 (dk_at dksX5_leastTreadles_0 1 rfl rfl)
theorem dX5_leastTreadles_2 : decode cX5_leastTreadles 2 = .ok (.iconst 0, 1) := dk_3 (dk_at dksX5_leastTreadles_0 2 rfl rfl)
theorem dX5_leastTreadles_3 : decode cX5_leastTreadles 3 = .ok (.istore_n 2, 1) := dk_61 (dk_at dksX5_leastTreadles_0 3 rfl rfl)
theorem dX5_leastTreadles_4 : decode cX5_leastTreadles 4 = .ok (.iload_n 2, 1) := dk_28 (dk_at dksX5_leastTreadles_0 4 rfl rfl)
theorem dX5_leastTreadles_5 : decode cX5_leastTreadles 5 = .ok (.aload_n 0, 1) := dk_42 (dk_at dksX5_leastTreadles_0 5 rfl rfl)
theorem dX5_leastTreadles_6 : decode cX5_leastTreadles 6 = .ok (.getfield 87, 3) := dk_180 0 87 (dk_at dksX5_leastTreadles_0 6 rfl rfl)
theorem dX5_leastTreadles_9 : decode cX5_leastTreadles 9 = .ok (.if_icmp .ge 30, 3) := dk_162 0 30 (dk_at dksX5_leastTreadles_0 9 rfl rfl)
theorem dX5_leastTreadles_12 : decode cX5_leastTreadles 12 = .ok (.aload_n 0, 1) := dk_42 (dk_at dksX5_leastTreadles_0 12 rfl rfl)
theorem dX5_leastTreadles_13 : decode cX5_leastTreadles 13 = .ok (.iload_n 2, 1) := dk_28 (dk_at dksX5_leastTreadles_0 13 rfl rfl)
theorem dX5_leastTreadles_14 : decode cX5_leastTreadles 14 = .ok (.invokevirtual 176, 3) := dk_182 0 176 (dk_at dksX5_leastTreadles_0 14 rfl rfl)
theorem dX5_leastTreadles_17 : decode cX5_leastTreadles 17 = .ok (.iload_n 1, 1) := dk_27 (dk_at dksX5_leastTreadles_0 17 rfl rfl)
theorem dX5_leastTreadles_18 : decode cX5_leastTreadles 18 = .ok (.if_icmp .lt 13, 3) := dk_161 0 13 (dk_at dksX5_leastTreadles_0 18 rfl rfl)
theorem dX5_leastTreadles_21 : decode cX5_leastTreadles 21 = .ok (.aload_n 0, 1) := dk_42 (dk_at dksX5_leastTreadles_0 21 rfl rfl)
theorem dX5_leastTreadles_22 : decode cX5_leastTreadles 22 = .ok (.iload_n 2, 1) := dk_28 (dk_at dksX5_leastTreadles_0 22 rfl rfl)
theorem dX5_leastTreadles_23 : decode cX5_leastTreadles 23 = .ok (.invokevirtual 176, 3) := dk_182 0 176 (dk_at dksX5_leastTreadles_1 0 rfl rfl)
theorem dX5_leastTreadles_26 : decode cX5_leastTreadles 26 = .ok (.iconst 1, 1) := dk_4 (dk_at dksX5_leastTreadles_1 3 rfl rfl)
theorem dX5_leastTreadles_27 : decode cX5_leastTreadles 27 = .ok (.iadd, 1) := dk_96 (dk_at dksX5_leastTreadles_1 4 rfl rfl)
theorem dX5_leastTreadles_28 : decode cX5_leastTreadles 28 = .ok (.goto 4, 3) := dk_167 0 4 (dk_at dksX5_leastTreadles_1 5 rfl rfl)
theorem dX5_leastTreadles_31 : decode cX5_leastTreadles 31 = .ok (.iload_n 1, 1) := dk_27 (dk_at dksX5_leastTreadles_1 8 rfl rfl)
theorem dX5_leastTreadles_32 : decode cX5_leastTreadles 32 = .ok (.istore_n 1, 1) := dk_60 (dk_at dksX5_leastTreadles_1 9 rfl rfl)
theorem dX5_leastTreadles_33 : decode cX5_leastTreadles 33 = .ok (.iinc 2 1, 3) := dk_132 2 1 (dk_at dksX5_leastTreadles_1 10 rfl rfl)
theorem dX5_leastTreadles_36 : decode cX5_leastTreadles 36 = .ok (.goto (-32), 3) := dk_167 255 224 (dk_at dksX5_leastTreadles_1 13 rfl rfl)
theorem dX5_leastTreadles_39 : decode cX5_leastTreadles 39 = .ok (.iload_n 1, 1) := dk_27 (dk_at dksX5_leastTreadles_1 16 rfl rfl)
theorem dX5_leastTreadles_40 : decode cX5_leastTreadles 40 = .ok (.ireturn, 1) := dk_172 (dk_at dksX5_leastTreadles_1 17 rfl rfl)
abbrev cX5_treadleOf : ByteArray := prog_15_method_44_code
def yX5_treadleOf : MethodName := ⟨RX5, "treadleOf", "(I)I"⟩
def dkwX5_treadleOf_4 : List UInt8 := [28, 172]
abbrev dktX5_treadleOf_4 : List UInt8 := dkwX5_treadleOf_4 ++ []
def dkwX5_treadleOf_3 : List UInt8 := [160, 0, 5, 28, 172, 28, 21, 4, 153, 0, 7, 4, 167, 0, 4, 3, 96, 61, 132, 3, 1, 167, 255, 169]
abbrev dktX5_treadleOf_3 : List UInt8 := dkwX5_treadleOf_3 ++ dktX5_treadleOf_4
def dkwX5_treadleOf_2 : List UInt8 := [167, 0, 4, 3, 54, 4, 132, 5, 1, 167, 255, 219, 42, 180, 0, 13, 29, 46, 42, 180, 0, 13, 27, 46]
abbrev dktX5_treadleOf_2 : List UInt8 := dkwX5_treadleOf_2 ++ dktX5_treadleOf_3
def dkwX5_treadleOf_1 : List UInt8 := [21, 4, 153, 0, 23, 42, 180, 0, 13, 21, 5, 46, 42, 180, 0, 13, 29, 46, 159, 0, 7, 4]
abbrev dktX5_treadleOf_1 : List UInt8 := dkwX5_treadleOf_1 ++ dktX5_treadleOf_2
def dkwX5_treadleOf_0 : List UInt8 := [3, 61, 3, 62, 29, 42, 180, 0, 87, 162, 0, 85, 4, 54, 4, 3, 54, 5, 21, 5, 29, 162, 0, 37]
abbrev dktX5_treadleOf_0 : List UInt8 := dkwX5_treadleOf_0 ++ dktX5_treadleOf_1
theorem dksX5_treadleOf_0 : cX5_treadleOf.data.toList.drop 0 = dktX5_treadleOf_0 := by decide +kernel
theorem dksX5_treadleOf_1 : cX5_treadleOf.data.toList.drop 24 = dktX5_treadleOf_1 := dk_seg dksX5_treadleOf_0 24 rfl rfl
theorem dksX5_treadleOf_2 : cX5_treadleOf.data.toList.drop 46 = dktX5_treadleOf_2 := dk_seg dksX5_treadleOf_1 22 rfl rfl
theorem dksX5_treadleOf_3 : cX5_treadleOf.data.toList.drop 70 = dktX5_treadleOf_3 := dk_seg dksX5_treadleOf_2 24 rfl rfl
theorem dksX5_treadleOf_4 : cX5_treadleOf.data.toList.drop 94 = dktX5_treadleOf_4 := dk_seg dksX5_treadleOf_3 24 rfl rfl
theorem dX5_treadleOf_0 : decode cX5_treadleOf 0 = .ok (.iconst 0, 1) := dk_3 (dk_at dksX5_treadleOf_0 0 rfl rfl)
theorem dX5_treadleOf_1 : decode cX5_treadleOf 1 = .ok (.istore_n 2, 1) := dk_61 (dk_at dksX5_treadleOf_0 1 rfl rfl)
theorem dX5_treadleOf_2 : decode cX5_treadleOf 2 = .ok (.iconst 0, 1) := dk_3 (dk_at dksX5_treadleOf_0 2 rfl rfl)
theorem dX5_treadleOf_3 : decode cX5_treadleOf 3 = .ok (.istore_n 3, 1) := dk_62 (dk_at dksX5_treadleOf_0 3 rfl rfl)
theorem dX5_treadleOf_4 : decode cX5_treadleOf 4 = .ok (.iload_n 3, 1) := dk_29 (dk_at dksX5_treadleOf_0 4 rfl rfl)
theorem dX5_treadleOf_5 : decode cX5_treadleOf 5 = .ok (.aload_n 0, 1) := dk_42 (dk_at dksX5_treadleOf_0 5 rfl rfl)
theorem dX5_treadleOf_6 : decode cX5_treadleOf 6 = .ok (.getfield 87, 3) := dk_180 0 87 (dk_at dksX5_treadleOf_0 6 rfl rfl)
theorem dX5_treadleOf_9 : decode cX5_treadleOf 9 = .ok (.if_icmp .ge 85, 3) := dk_162 0 85 (dk_at dksX5_treadleOf_0 9 rfl rfl)
theorem dX5_treadleOf_12 : decode cX5_treadleOf 12 = .ok (.iconst 1, 1) := dk_4 (dk_at dksX5_treadleOf_0 12 rfl rfl)
theorem dX5_treadleOf_13 : decode cX5_treadleOf 13 = .ok (.istore 4, 2) := dk_54 4 (dk_at dksX5_treadleOf_0 13 rfl rfl)
theorem dX5_treadleOf_15 : decode cX5_treadleOf 15 = .ok (.iconst 0, 1) := dk_3 (dk_at dksX5_treadleOf_0 15 rfl rfl)
theorem dX5_treadleOf_16 : decode cX5_treadleOf 16 = .ok (.istore 5, 2) := dk_54 5 (dk_at dksX5_treadleOf_0 16 rfl rfl)
theorem dX5_treadleOf_18 : decode cX5_treadleOf 18 = .ok (.iload 5, 2) := dk_21 5 (dk_at dksX5_treadleOf_0 18 rfl rfl)
theorem dX5_treadleOf_20 : decode cX5_treadleOf 20 = .ok (.iload_n 3, 1) := dk_29 (dk_at dksX5_treadleOf_0 20 rfl rfl)
theorem dX5_treadleOf_21 : decode cX5_treadleOf 21 = .ok (.if_icmp .ge 37, 3) := dk_162 0 37 (dk_at dksX5_treadleOf_0 21 rfl rfl)
theorem dX5_treadleOf_24 : decode cX5_treadleOf 24 = .ok (.iload 4, 2) := dk_21 4 (dk_at dksX5_treadleOf_1 0 rfl rfl)
theorem dX5_treadleOf_26 : decode cX5_treadleOf 26 = .ok (.ifCond .eq 23, 3) := dk_153 0 23 (dk_at dksX5_treadleOf_1 2 rfl rfl)
theorem dX5_treadleOf_29 : decode cX5_treadleOf 29 = .ok (.aload_n 0, 1) := dk_42 (dk_at dksX5_treadleOf_1 5 rfl rfl)
theorem dX5_treadleOf_30 : decode cX5_treadleOf 30 = .ok (.getfield 13, 3) := dk_180 0 13 (dk_at dksX5_treadleOf_1 6 rfl rfl)
theorem dX5_treadleOf_33 : decode cX5_treadleOf 33 = .ok (.iload 5, 2) := dk_21 5 (dk_at dksX5_treadleOf_1 9 rfl rfl)
theorem dX5_treadleOf_35 : decode cX5_treadleOf 35 = .ok (.iaload, 1) := dk_46 (dk_at dksX5_treadleOf_1 11 rfl rfl)
theorem dX5_treadleOf_36 : decode cX5_treadleOf 36 = .ok (.aload_n 0, 1) := dk_42 (dk_at dksX5_treadleOf_1 12 rfl rfl)
theorem dX5_treadleOf_37 : decode cX5_treadleOf 37 = .ok (.getfield 13, 3) := dk_180 0 13 (dk_at dksX5_treadleOf_1 13 rfl rfl)
theorem dX5_treadleOf_40 : decode cX5_treadleOf 40 = .ok (.iload_n 3, 1) := dk_29 (dk_at dksX5_treadleOf_1 16 rfl rfl)
theorem dX5_treadleOf_41 : decode cX5_treadleOf 41 = .ok (.iaload, 1) := dk_46 (dk_at dksX5_treadleOf_1 17 rfl rfl)
theorem dX5_treadleOf_42 : decode cX5_treadleOf 42 = .ok (.if_icmp .eq 7, 3) := dk_159 0 7 (dk_at dksX5_treadleOf_1 18 rfl rfl)
theorem dX5_treadleOf_45 : decode cX5_treadleOf 45 = .ok (.iconst 1, 1) := dk_4 (dk_at dksX5_treadleOf_1 21 rfl rfl)
theorem dX5_treadleOf_46 : decode cX5_treadleOf 46 = .ok (.goto 4, 3) := dk_167 0 4 (dk_at dksX5_treadleOf_2 0 rfl rfl)
theorem dX5_treadleOf_49 : decode cX5_treadleOf 49 = .ok (.iconst 0, 1) := dk_3 (dk_at dksX5_treadleOf_2 3 rfl rfl)
theorem dX5_treadleOf_50 : decode cX5_treadleOf 50 = .ok (.istore 4, 2) := dk_54 4 (dk_at dksX5_treadleOf_2 4 rfl rfl)
theorem dX5_treadleOf_52 : decode cX5_treadleOf 52 = .ok (.iinc 5 1, 3) := dk_132 5 1 (dk_at dksX5_treadleOf_2 6 rfl rfl)
theorem dX5_treadleOf_55 : decode cX5_treadleOf 55 = .ok (.goto (-37), 3) := dk_167 255 219 (dk_at dksX5_treadleOf_2 9 rfl rfl)
theorem dX5_treadleOf_58 : decode cX5_treadleOf 58 = .ok (.aload_n 0, 1) := dk_42 (dk_at dksX5_treadleOf_2 12 rfl rfl)
theorem dX5_treadleOf_59 : decode cX5_treadleOf 59 = .ok (.getfield 13, 3) := dk_180 0 13 (dk_at dksX5_treadleOf_2 13 rfl rfl)
theorem dX5_treadleOf_62 : decode cX5_treadleOf 62 = .ok (.iload_n 3, 1) := dk_29 (dk_at dksX5_treadleOf_2 16 rfl rfl)
theorem dX5_treadleOf_63 : decode cX5_treadleOf 63 = .ok (.iaload, 1) := dk_46 (dk_at dksX5_treadleOf_2 17 rfl rfl)
theorem dX5_treadleOf_64 : decode cX5_treadleOf 64 = .ok (.aload_n 0, 1) := dk_42 (dk_at dksX5_treadleOf_2 18 rfl rfl)
theorem dX5_treadleOf_65 : decode cX5_treadleOf 65 = .ok (.getfield 13, 3) := dk_180 0 13 (dk_at dksX5_treadleOf_2 19 rfl rfl)
theorem dX5_treadleOf_68 : decode cX5_treadleOf 68 = .ok (.iload_n 1, 1) := dk_27 (dk_at dksX5_treadleOf_2 22 rfl rfl)
theorem dX5_treadleOf_69 : decode cX5_treadleOf 69 = .ok (.iaload, 1) := dk_46 (dk_at dksX5_treadleOf_2 23 rfl rfl)
theorem dX5_treadleOf_70 : decode cX5_treadleOf 70 = .ok (.if_icmp .ne 5, 3) := dk_160 0 5 (dk_at dksX5_treadleOf_3 0 rfl rfl)
theorem dX5_treadleOf_73 : decode cX5_treadleOf 73 = .ok (.iload_n 2, 1) := dk_28 (dk_at dksX5_treadleOf_3 3 rfl rfl)
theorem dX5_treadleOf_74 : decode cX5_treadleOf 74 = .ok (.ireturn, 1) := dk_172 (dk_at dksX5_treadleOf_3 4 rfl rfl)
theorem dX5_treadleOf_75 : decode cX5_treadleOf 75 = .ok (.iload_n 2, 1) := dk_28 (dk_at dksX5_treadleOf_3 5 rfl rfl)
theorem dX5_treadleOf_76 : decode cX5_treadleOf 76 = .ok (.iload 4, 2) := dk_21 4 (dk_at dksX5_treadleOf_3 6 rfl rfl)
theorem dX5_treadleOf_78 : decode cX5_treadleOf 78 = .ok (.ifCond .eq 7, 3) := dk_153 0 7 (dk_at dksX5_treadleOf_3 8 rfl rfl)
theorem dX5_treadleOf_81 : decode cX5_treadleOf 81 = .ok (.iconst 1, 1) := dk_4 (dk_at dksX5_treadleOf_3 11 rfl rfl)
theorem dX5_treadleOf_82 : decode cX5_treadleOf 82 = .ok (.goto 4, 3) := dk_167 0 4 (dk_at dksX5_treadleOf_3 12 rfl rfl)
theorem dX5_treadleOf_85 : decode cX5_treadleOf 85 = .ok (.iconst 0, 1) := dk_3 (dk_at dksX5_treadleOf_3 15 rfl rfl)
theorem dX5_treadleOf_86 : decode cX5_treadleOf 86 = .ok (.iadd, 1) := dk_96 (dk_at dksX5_treadleOf_3 16 rfl rfl)
theorem dX5_treadleOf_87 : decode cX5_treadleOf 87 = .ok (.istore_n 2, 1) := dk_61 (dk_at dksX5_treadleOf_3 17 rfl rfl)
theorem dX5_treadleOf_88 : decode cX5_treadleOf 88 = .ok (.iinc 3 1, 3) := dk_132 3 1 (dk_at dksX5_treadleOf_3 18 rfl rfl)
theorem dX5_treadleOf_91 : decode cX5_treadleOf 91 = .ok (.goto (-87), 3) := dk_167 255 169 (dk_at dksX5_treadleOf_3 21 rfl rfl)
theorem dX5_treadleOf_94 : decode cX5_treadleOf 94 = .ok (.iload_n 2, 1) := dk_28 (dk_at dksX5_treadleOf_4 0 rfl rfl)
theorem dX5_treadleOf_95 : decode cX5_treadleOf 95 = .ok (.ireturn, 1) := dk_172 (dk_at dksX5_treadleOf_4 1 rfl rfl)
abbrev cX5_turn : ByteArray := prog_15_method_49_code
def yX5_turn : MethodName := ⟨RX5, "turn", "()I"⟩
def dkwX5_turn_6 : List UInt8 := [16, 46, 27, 96, 182, 0, 185, 132, 1, 1, 167, 255, 224, 42, 180, 0, 7, 3, 46, 172]
abbrev dktX5_turn_6 : List UInt8 := dkwX5_turn_6 ++ []
def dkwX5_turn_5 : List UInt8 := [3, 60, 27, 16, 12, 162, 0, 32, 42, 7, 27, 96, 16, 22, 27, 96, 182, 0, 185, 42, 16, 34, 27, 96]
abbrev dktX5_turn_5 : List UInt8 := dkwX5_turn_5 ++ dktX5_turn_6
def dkwX5_turn_4 : List UInt8 := [180, 0, 38, 27, 46, 79, 132, 1, 1, 167, 255, 232, 42, 3, 4, 182, 0, 185, 42, 5, 6, 182, 0, 185]
abbrev dktX5_turn_4 : List UInt8 := dkwX5_turn_4 ++ dktX5_turn_5
def dkwX5_turn_3 : List UInt8 := [132, 1, 1, 167, 255, 190, 3, 60, 27, 16, 6, 162, 0, 24, 42, 180, 0, 7, 16, 16, 27, 96, 42]
abbrev dktX5_turn_3 : List UInt8 := dkwX5_turn_3 ++ dktX5_turn_4
def dkwX5_turn_2 : List UInt8 := [27, 184, 0, 124, 153, 0, 9, 4, 28, 120, 167, 0, 4, 3, 128, 79, 132, 2, 1, 167, 255, 211]
abbrev dktX5_turn_2 : List UInt8 := dkwX5_turn_2 ++ dktX5_turn_3
def dkwX5_turn_1 : List UInt8 := [180, 0, 7, 6, 46, 162, 0, 41, 42, 180, 0, 38, 27, 92, 46, 42, 180, 0, 7, 16, 16, 28, 96, 46]
abbrev dktX5_turn_1 : List UInt8 := dkwX5_turn_1 ++ dktX5_turn_2
def dkwX5_turn_0 : List UInt8 := [42, 182, 0, 158, 3, 60, 27, 16, 6, 162, 0, 66, 42, 180, 0, 38, 27, 3, 79, 3, 61, 28, 42]
abbrev dktX5_turn_0 : List UInt8 := dkwX5_turn_0 ++ dktX5_turn_1
theorem dksX5_turn_0 : cX5_turn.data.toList.drop 0 = dktX5_turn_0 := by decide +kernel
theorem dksX5_turn_1 : cX5_turn.data.toList.drop 23 = dktX5_turn_1 := dk_seg dksX5_turn_0 23 rfl rfl
theorem dksX5_turn_2 : cX5_turn.data.toList.drop 47 = dktX5_turn_2 := dk_seg dksX5_turn_1 24 rfl rfl
theorem dksX5_turn_3 : cX5_turn.data.toList.drop 69 = dktX5_turn_3 := dk_seg dksX5_turn_2 22 rfl rfl
theorem dksX5_turn_4 : cX5_turn.data.toList.drop 92 = dktX5_turn_4 := dk_seg dksX5_turn_3 23 rfl rfl
theorem dksX5_turn_5 : cX5_turn.data.toList.drop 116 = dktX5_turn_5 := dk_seg dksX5_turn_4 24 rfl rfl
theorem dksX5_turn_6 : cX5_turn.data.toList.drop 140 = dktX5_turn_6 := dk_seg dksX5_turn_5 24 rfl rfl
theorem dX5_turn_0 : decode cX5_turn 0 = .ok (.aload_n 0, 1) := dk_42 (dk_at dksX5_turn_0 0 rfl rfl)
theorem dX5_turn_1 : decode cX5_turn 1 = .ok (.invokevirtual 158, 3) := dk_182 0 158 (dk_at dksX5_turn_0 1 rfl rfl)
theorem dX5_turn_4 : decode cX5_turn 4 = .ok (.iconst 0, 1) := dk_3 (dk_at dksX5_turn_0 4 rfl rfl)
theorem dX5_turn_5 : decode cX5_turn 5 = .ok (.istore_n 1, 1) := dk_60 (dk_at dksX5_turn_0 5 rfl rfl)
theorem dX5_turn_6 : decode cX5_turn 6 = .ok (.iload_n 1, 1) := dk_27 (dk_at dksX5_turn_0 6 rfl rfl)
theorem dX5_turn_7 : decode cX5_turn 7 = .ok (.bipush 6, 2) := dk_16 6 (dk_at dksX5_turn_0 7 rfl rfl)
theorem dX5_turn_9 : decode cX5_turn 9 = .ok (.if_icmp .ge 66, 3) := dk_162 0 66 (dk_at dksX5_turn_0 9 rfl rfl)
theorem dX5_turn_12 : decode cX5_turn 12 = .ok (.aload_n 0, 1) := dk_42 (dk_at dksX5_turn_0 12 rfl rfl)
theorem dX5_turn_13 : decode cX5_turn 13 = .ok (.getfield 38, 3) := dk_180 0 38 (dk_at dksX5_turn_0 13 rfl rfl)
theorem dX5_turn_16 : decode cX5_turn 16 = .ok (.iload_n 1, 1) := dk_27 (dk_at dksX5_turn_0 16 rfl rfl)
theorem dX5_turn_17 : decode cX5_turn 17 = .ok (.iconst 0, 1) := dk_3 (dk_at dksX5_turn_0 17 rfl rfl)
theorem dX5_turn_18 : decode cX5_turn 18 = .ok (.iastore, 1) := dk_79 (dk_at dksX5_turn_0 18 rfl rfl)
theorem dX5_turn_19 : decode cX5_turn 19 = .ok (.iconst 0, 1) := dk_3 (dk_at dksX5_turn_0 19 rfl rfl)
theorem dX5_turn_20 : decode cX5_turn 20 = .ok (.istore_n 2, 1) := dk_61 (dk_at dksX5_turn_0 20 rfl rfl)
theorem dX5_turn_21 : decode cX5_turn 21 = .ok (.iload_n 2, 1) := dk_28 (dk_at dksX5_turn_0 21 rfl rfl)
theorem dX5_turn_22 : decode cX5_turn 22 = .ok (.aload_n 0, 1) := dk_42 (dk_at dksX5_turn_0 22 rfl rfl)
theorem dX5_turn_23 : decode cX5_turn 23 = .ok (.getfield 7, 3) := dk_180 0 7 (dk_at dksX5_turn_1 0 rfl rfl)
theorem dX5_turn_26 : decode cX5_turn 26 = .ok (.iconst 3, 1) := dk_6 (dk_at dksX5_turn_1 3 rfl rfl)
theorem dX5_turn_27 : decode cX5_turn 27 = .ok (.iaload, 1) := dk_46 (dk_at dksX5_turn_1 4 rfl rfl)
theorem dX5_turn_28 : decode cX5_turn 28 = .ok (.if_icmp .ge 41, 3) := dk_162 0 41 (dk_at dksX5_turn_1 5 rfl rfl)
theorem dX5_turn_31 : decode cX5_turn 31 = .ok (.aload_n 0, 1) := dk_42 (dk_at dksX5_turn_1 8 rfl rfl)
theorem dX5_turn_32 : decode cX5_turn 32 = .ok (.getfield 38, 3) := dk_180 0 38 (dk_at dksX5_turn_1 9 rfl rfl)
theorem dX5_turn_35 : decode cX5_turn 35 = .ok (.iload_n 1, 1) := dk_27 (dk_at dksX5_turn_1 12 rfl rfl)
theorem dX5_turn_36 : decode cX5_turn 36 = .ok (.dup2, 1) := dk_92 (dk_at dksX5_turn_1 13 rfl rfl)
theorem dX5_turn_37 : decode cX5_turn 37 = .ok (.iaload, 1) := dk_46 (dk_at dksX5_turn_1 14 rfl rfl)
theorem dX5_turn_38 : decode cX5_turn 38 = .ok (.aload_n 0, 1) := dk_42 (dk_at dksX5_turn_1 15 rfl rfl)
theorem dX5_turn_39 : decode cX5_turn 39 = .ok (.getfield 7, 3) := dk_180 0 7 (dk_at dksX5_turn_1 16 rfl rfl)
theorem dX5_turn_42 : decode cX5_turn 42 = .ok (.bipush 16, 2) := dk_16 16 (dk_at dksX5_turn_1 19 rfl rfl)
theorem dX5_turn_44 : decode cX5_turn 44 = .ok (.iload_n 2, 1) := dk_28 (dk_at dksX5_turn_1 21 rfl rfl)
theorem dX5_turn_45 : decode cX5_turn 45 = .ok (.iadd, 1) := dk_96 (dk_at dksX5_turn_1 22 rfl rfl)
theorem dX5_turn_46 : decode cX5_turn 46 = .ok (.iaload, 1) := dk_46 (dk_at dksX5_turn_1 23 rfl rfl)
theorem dX5_turn_47 : decode cX5_turn 47 = .ok (.iload_n 1, 1) := dk_27 (dk_at dksX5_turn_2 0 rfl rfl)
theorem dX5_turn_48 : decode cX5_turn 48 = .ok (.invokestatic 124, 3) := dk_184 0 124 (dk_at dksX5_turn_2 1 rfl rfl)
theorem dX5_turn_51 : decode cX5_turn 51 = .ok (.ifCond .eq 9, 3) := dk_153 0 9 (dk_at dksX5_turn_2 4 rfl rfl)
theorem dX5_turn_54 : decode cX5_turn 54 = .ok (.iconst 1, 1) := dk_4 (dk_at dksX5_turn_2 7 rfl rfl)
theorem dX5_turn_55 : decode cX5_turn 55 = .ok (.iload_n 2, 1) := dk_28 (dk_at dksX5_turn_2 8 rfl rfl)
theorem dX5_turn_56 : decode cX5_turn 56 = .ok (.ishl, 1) := dk_120 (dk_at dksX5_turn_2 9 rfl rfl)
theorem dX5_turn_57 : decode cX5_turn 57 = .ok (.goto 4, 3) := dk_167 0 4 (dk_at dksX5_turn_2 10 rfl rfl)
theorem dX5_turn_60 : decode cX5_turn 60 = .ok (.iconst 0, 1) := dk_3 (dk_at dksX5_turn_2 13 rfl rfl)
theorem dX5_turn_61 : decode cX5_turn 61 = .ok (.ior, 1) := dk_128 (dk_at dksX5_turn_2 14 rfl rfl)
theorem dX5_turn_62 : decode cX5_turn 62 = .ok (.iastore, 1) := dk_79 (dk_at dksX5_turn_2 15 rfl rfl)
theorem dX5_turn_63 : decode cX5_turn 63 = .ok (.iinc 2 1, 3) := dk_132 2 1 (dk_at dksX5_turn_2 16 rfl rfl)
theorem dX5_turn_66 : decode cX5_turn 66 = .ok (.goto (-45), 3) := dk_167 255 211 (dk_at dksX5_turn_2 19 rfl rfl)
theorem dX5_turn_69 : decode cX5_turn 69 = .ok (.iinc 1 1, 3) := dk_132 1 1 (dk_at dksX5_turn_3 0 rfl rfl)
theorem dX5_turn_72 : decode cX5_turn 72 = .ok (.goto (-66), 3) := dk_167 255 190 (dk_at dksX5_turn_3 3 rfl rfl)
theorem dX5_turn_75 : decode cX5_turn 75 = .ok (.iconst 0, 1) := dk_3 (dk_at dksX5_turn_3 6 rfl rfl)
theorem dX5_turn_76 : decode cX5_turn 76 = .ok (.istore_n 1, 1) := dk_60 (dk_at dksX5_turn_3 7 rfl rfl)
theorem dX5_turn_77 : decode cX5_turn 77 = .ok (.iload_n 1, 1) := dk_27 (dk_at dksX5_turn_3 8 rfl rfl)
theorem dX5_turn_78 : decode cX5_turn 78 = .ok (.bipush 6, 2) := dk_16 6 (dk_at dksX5_turn_3 9 rfl rfl)
theorem dX5_turn_80 : decode cX5_turn 80 = .ok (.if_icmp .ge 24, 3) := dk_162 0 24 (dk_at dksX5_turn_3 11 rfl rfl)
theorem dX5_turn_83 : decode cX5_turn 83 = .ok (.aload_n 0, 1) := dk_42 (dk_at dksX5_turn_3 14 rfl rfl)
theorem dX5_turn_84 : decode cX5_turn 84 = .ok (.getfield 7, 3) := dk_180 0 7 (dk_at dksX5_turn_3 15 rfl rfl)
theorem dX5_turn_87 : decode cX5_turn 87 = .ok (.bipush 16, 2) := dk_16 16 (dk_at dksX5_turn_3 18 rfl rfl)
theorem dX5_turn_89 : decode cX5_turn 89 = .ok (.iload_n 1, 1) := dk_27 (dk_at dksX5_turn_3 20 rfl rfl)
theorem dX5_turn_90 : decode cX5_turn 90 = .ok (.iadd, 1) := dk_96 (dk_at dksX5_turn_3 21 rfl rfl)
theorem dX5_turn_91 : decode cX5_turn 91 = .ok (.aload_n 0, 1) := dk_42 (dk_at dksX5_turn_3 22 rfl rfl)
theorem dX5_turn_92 : decode cX5_turn 92 = .ok (.getfield 38, 3) := dk_180 0 38 (dk_at dksX5_turn_4 0 rfl rfl)
theorem dX5_turn_95 : decode cX5_turn 95 = .ok (.iload_n 1, 1) := dk_27 (dk_at dksX5_turn_4 3 rfl rfl)
theorem dX5_turn_96 : decode cX5_turn 96 = .ok (.iaload, 1) := dk_46 (dk_at dksX5_turn_4 4 rfl rfl)
theorem dX5_turn_97 : decode cX5_turn 97 = .ok (.iastore, 1) := dk_79 (dk_at dksX5_turn_4 5 rfl rfl)
theorem dX5_turn_98 : decode cX5_turn 98 = .ok (.iinc 1 1, 3) := dk_132 1 1 (dk_at dksX5_turn_4 6 rfl rfl)
theorem dX5_turn_101 : decode cX5_turn 101 = .ok (.goto (-24), 3) := dk_167 255 232 (dk_at dksX5_turn_4 9 rfl rfl)
theorem dX5_turn_104 : decode cX5_turn 104 = .ok (.aload_n 0, 1) := dk_42 (dk_at dksX5_turn_4 12 rfl rfl)
theorem dX5_turn_105 : decode cX5_turn 105 = .ok (.iconst 0, 1) := dk_3 (dk_at dksX5_turn_4 13 rfl rfl)
theorem dX5_turn_106 : decode cX5_turn 106 = .ok (.iconst 1, 1) := dk_4 (dk_at dksX5_turn_4 14 rfl rfl)
theorem dX5_turn_107 : decode cX5_turn 107 = .ok (.invokevirtual 185, 3) := dk_182 0 185 (dk_at dksX5_turn_4 15 rfl rfl)
theorem dX5_turn_110 : decode cX5_turn 110 = .ok (.aload_n 0, 1) := dk_42 (dk_at dksX5_turn_4 18 rfl rfl)
theorem dX5_turn_111 : decode cX5_turn 111 = .ok (.iconst 2, 1) := dk_5 (dk_at dksX5_turn_4 19 rfl rfl)
theorem dX5_turn_112 : decode cX5_turn 112 = .ok (.iconst 3, 1) := dk_6 (dk_at dksX5_turn_4 20 rfl rfl)
theorem dX5_turn_113 : decode cX5_turn 113 = .ok (.invokevirtual 185, 3) := dk_182 0 185 (dk_at dksX5_turn_4 21 rfl rfl)
theorem dX5_turn_116 : decode cX5_turn 116 = .ok (.iconst 0, 1) := dk_3 (dk_at dksX5_turn_5 0 rfl rfl)
theorem dX5_turn_117 : decode cX5_turn 117 = .ok (.istore_n 1, 1) := dk_60 (dk_at dksX5_turn_5 1 rfl rfl)
theorem dX5_turn_118 : decode cX5_turn 118 = .ok (.iload_n 1, 1) := dk_27 (dk_at dksX5_turn_5 2 rfl rfl)
theorem dX5_turn_119 : decode cX5_turn 119 = .ok (.bipush 12, 2) := dk_16 12 (dk_at dksX5_turn_5 3 rfl rfl)
theorem dX5_turn_121 : decode cX5_turn 121 = .ok (.if_icmp .ge 32, 3) := dk_162 0 32 (dk_at dksX5_turn_5 5 rfl rfl)
theorem dX5_turn_124 : decode cX5_turn 124 = .ok (.aload_n 0, 1) := dk_42 (dk_at dksX5_turn_5 8 rfl rfl)
theorem dX5_turn_125 : decode cX5_turn 125 = .ok (.iconst 4, 1) := dk_7 (dk_at dksX5_turn_5 9 rfl rfl)
theorem dX5_turn_126 : decode cX5_turn 126 = .ok (.iload_n 1, 1) := dk_27 (dk_at dksX5_turn_5 10 rfl rfl)
theorem dX5_turn_127 : decode cX5_turn 127 = .ok (.iadd, 1) := dk_96 (dk_at dksX5_turn_5 11 rfl rfl)
theorem dX5_turn_128 : decode cX5_turn 128 = .ok (.bipush 22, 2) := dk_16 22 (dk_at dksX5_turn_5 12 rfl rfl)
theorem dX5_turn_130 : decode cX5_turn 130 = .ok (.iload_n 1, 1) := dk_27 (dk_at dksX5_turn_5 14 rfl rfl)
theorem dX5_turn_131 : decode cX5_turn 131 = .ok (.iadd, 1) := dk_96 (dk_at dksX5_turn_5 15 rfl rfl)
theorem dX5_turn_132 : decode cX5_turn 132 = .ok (.invokevirtual 185, 3) := dk_182 0 185 (dk_at dksX5_turn_5 16 rfl rfl)
theorem dX5_turn_135 : decode cX5_turn 135 = .ok (.aload_n 0, 1) := dk_42 (dk_at dksX5_turn_5 19 rfl rfl)
theorem dX5_turn_136 : decode cX5_turn 136 = .ok (.bipush 34, 2) := dk_16 34 (dk_at dksX5_turn_5 20 rfl rfl)
theorem dX5_turn_138 : decode cX5_turn 138 = .ok (.iload_n 1, 1) := dk_27 (dk_at dksX5_turn_5 22 rfl rfl)
theorem dX5_turn_139 : decode cX5_turn 139 = .ok (.iadd, 1) := dk_96 (dk_at dksX5_turn_5 23 rfl rfl)
theorem dX5_turn_140 : decode cX5_turn 140 = .ok (.bipush 46, 2) := dk_16 46 (dk_at dksX5_turn_6 0 rfl rfl)
theorem dX5_turn_142 : decode cX5_turn 142 = .ok (.iload_n 1, 1) := dk_27 (dk_at dksX5_turn_6 2 rfl rfl)
theorem dX5_turn_143 : decode cX5_turn 143 = .ok (.iadd, 1) := dk_96 (dk_at dksX5_turn_6 3 rfl rfl)
theorem dX5_turn_144 : decode cX5_turn 144 = .ok (.invokevirtual 185, 3) := dk_182 0 185 (dk_at dksX5_turn_6 4 rfl rfl)
theorem dX5_turn_147 : decode cX5_turn 147 = .ok (.iinc 1 1, 3) := dk_132 1 1 (dk_at dksX5_turn_6 7 rfl rfl)
theorem dX5_turn_150 : decode cX5_turn 150 = .ok (.goto (-32), 3) := dk_167 255 224 (dk_at dksX5_turn_6 10 rfl rfl)
theorem dX5_turn_153 : decode cX5_turn 153 = .ok (.aload_n 0, 1) := dk_42 (dk_at dksX5_turn_6 13 rfl rfl)
theorem dX5_turn_154 : decode cX5_turn 154 = .ok (.getfield 7, 3) := dk_180 0 7 (dk_at dksX5_turn_6 14 rfl rfl)
theorem dX5_turn_157 : decode cX5_turn 157 = .ok (.iconst 0, 1) := dk_3 (dk_at dksX5_turn_6 17 rfl rfl)
theorem dX5_turn_158 : decode cX5_turn 158 = .ok (.iaload, 1) := dk_46 (dk_at dksX5_turn_6 18 rfl rfl)
theorem dX5_turn_159 : decode cX5_turn 159 = .ok (.ireturn, 1) := dk_172 (dk_at dksX5_turn_6 19 rfl rfl)
abbrev cX5_swap : ByteArray := prog_15_method_48_code
def yX5_swap : MethodName := ⟨RX5, "swap", "(II)V"⟩
def dkwX5_swap_1 : List UInt8 := [29, 79, 177]
abbrev dktX5_swap_1 : List UInt8 := dkwX5_swap_1 ++ []
def dkwX5_swap_0 : List UInt8 := [42, 180, 0, 7, 27, 46, 62, 42, 180, 0, 7, 27, 42, 180, 0, 7, 28, 46, 79, 42, 180, 0, 7, 28]
abbrev dktX5_swap_0 : List UInt8 := dkwX5_swap_0 ++ dktX5_swap_1
theorem dksX5_swap_0 : cX5_swap.data.toList.drop 0 = dktX5_swap_0 := by decide +kernel
theorem dksX5_swap_1 : cX5_swap.data.toList.drop 24 = dktX5_swap_1 := dk_seg dksX5_swap_0 24 rfl rfl
theorem dX5_swap_0 : decode cX5_swap 0 = .ok (.aload_n 0, 1) := dk_42 (dk_at dksX5_swap_0 0 rfl rfl)
theorem dX5_swap_1 : decode cX5_swap 1 = .ok (.getfield 7, 3) := dk_180 0 7 (dk_at dksX5_swap_0 1 rfl rfl)
theorem dX5_swap_4 : decode cX5_swap 4 = .ok (.iload_n 1, 1) := dk_27 (dk_at dksX5_swap_0 4 rfl rfl)
theorem dX5_swap_5 : decode cX5_swap 5 = .ok (.iaload, 1) := dk_46 (dk_at dksX5_swap_0 5 rfl rfl)
theorem dX5_swap_6 : decode cX5_swap 6 = .ok (.istore_n 3, 1) := dk_62 (dk_at dksX5_swap_0 6 rfl rfl)
theorem dX5_swap_7 : decode cX5_swap 7 = .ok (.aload_n 0, 1) := dk_42 (dk_at dksX5_swap_0 7 rfl rfl)
theorem dX5_swap_8 : decode cX5_swap 8 = .ok (.getfield 7, 3) := dk_180 0 7 (dk_at dksX5_swap_0 8 rfl rfl)
theorem dX5_swap_11 : decode cX5_swap 11 = .ok (.iload_n 1, 1) := dk_27 (dk_at dksX5_swap_0 11 rfl rfl)
theorem dX5_swap_12 : decode cX5_swap 12 = .ok (.aload_n 0, 1) := dk_42 (dk_at dksX5_swap_0 12 rfl rfl)
theorem dX5_swap_13 : decode cX5_swap 13 = .ok (.getfield 7, 3) := dk_180 0 7 (dk_at dksX5_swap_0 13 rfl rfl)
theorem dX5_swap_16 : decode cX5_swap 16 = .ok (.iload_n 2, 1) := dk_28 (dk_at dksX5_swap_0 16 rfl rfl)
theorem dX5_swap_17 : decode cX5_swap 17 = .ok (.iaload, 1) := dk_46 (dk_at dksX5_swap_0 17 rfl rfl)
theorem dX5_swap_18 : decode cX5_swap 18 = .ok (.iastore, 1) := dk_79 (dk_at dksX5_swap_0 18 rfl rfl)
theorem dX5_swap_19 : decode cX5_swap 19 = .ok (.aload_n 0, 1) := dk_42 (dk_at dksX5_swap_0 19 rfl rfl)
theorem dX5_swap_20 : decode cX5_swap 20 = .ok (.getfield 7, 3) := dk_180 0 7 (dk_at dksX5_swap_0 20 rfl rfl)
theorem dX5_swap_23 : decode cX5_swap 23 = .ok (.iload_n 2, 1) := dk_28 (dk_at dksX5_swap_0 23 rfl rfl)
theorem dX5_swap_24 : decode cX5_swap 24 = .ok (.iload_n 3, 1) := dk_29 (dk_at dksX5_swap_1 0 rfl rfl)
theorem dX5_swap_25 : decode cX5_swap 25 = .ok (.iastore, 1) := dk_79 (dk_at dksX5_swap_1 1 rfl rfl)
theorem dX5_swap_26 : decode cX5_swap 26 = .ok (.return_, 1) := dk_177 (dk_at dksX5_swap_1 2 rfl rfl)
abbrev cX5_undo : ByteArray := prog_15_method_50_code
def yX5_undo : MethodName := ⟨RX5, "undo", "()I"⟩
def dkwX5_undo_1 : List UInt8 := [16, 58, 42, 180, 0, 121, 104, 96, 3, 182, 0, 154, 42, 180, 0, 121, 172]
abbrev dktX5_undo_1 : List UInt8 := dkwX5_undo_1 ++ []
def dkwX5_undo_0 : List UInt8 := [42, 180, 0, 121, 154, 0, 6, 16, 252, 172, 42, 89, 180, 0, 121, 4, 100, 181, 0, 121, 42, 16, 58]
abbrev dktX5_undo_0 : List UInt8 := dkwX5_undo_0 ++ dktX5_undo_1
theorem dksX5_undo_0 : cX5_undo.data.toList.drop 0 = dktX5_undo_0 := by decide +kernel
theorem dksX5_undo_1 : cX5_undo.data.toList.drop 23 = dktX5_undo_1 := dk_seg dksX5_undo_0 23 rfl rfl
theorem dX5_undo_0 : decode cX5_undo 0 = .ok (.aload_n 0, 1) := dk_42 (dk_at dksX5_undo_0 0 rfl rfl)
theorem dX5_undo_1 : decode cX5_undo 1 = .ok (.getfield 121, 3) := dk_180 0 121 (dk_at dksX5_undo_0 1 rfl rfl)
theorem dX5_undo_4 : decode cX5_undo 4 = .ok (.ifCond .ne 6, 3) := dk_154 0 6 (dk_at dksX5_undo_0 4 rfl rfl)
theorem dX5_undo_7 : decode cX5_undo 7 = .ok (.bipush (-4), 2) := dk_16 252 (dk_at dksX5_undo_0 7 rfl rfl)
theorem dX5_undo_9 : decode cX5_undo 9 = .ok (.ireturn, 1) := dk_172 (dk_at dksX5_undo_0 9 rfl rfl)
theorem dX5_undo_10 : decode cX5_undo 10 = .ok (.aload_n 0, 1) := dk_42 (dk_at dksX5_undo_0 10 rfl rfl)
theorem dX5_undo_11 : decode cX5_undo 11 = .ok (.dup, 1) := dk_89 (dk_at dksX5_undo_0 11 rfl rfl)
theorem dX5_undo_12 : decode cX5_undo 12 = .ok (.getfield 121, 3) := dk_180 0 121 (dk_at dksX5_undo_0 12 rfl rfl)
theorem dX5_undo_15 : decode cX5_undo 15 = .ok (.iconst 1, 1) := dk_4 (dk_at dksX5_undo_0 15 rfl rfl)
theorem dX5_undo_16 : decode cX5_undo 16 = .ok (.isub, 1) := dk_100 (dk_at dksX5_undo_0 16 rfl rfl)
theorem dX5_undo_17 : decode cX5_undo 17 = .ok (.putfield 121, 3) := dk_181 0 121 (dk_at dksX5_undo_0 17 rfl rfl)
theorem dX5_undo_20 : decode cX5_undo 20 = .ok (.aload_n 0, 1) := dk_42 (dk_at dksX5_undo_0 20 rfl rfl)
theorem dX5_undo_21 : decode cX5_undo 21 = .ok (.bipush 58, 2) := dk_16 58 (dk_at dksX5_undo_0 21 rfl rfl)
theorem dX5_undo_23 : decode cX5_undo 23 = .ok (.bipush 58, 2) := dk_16 58 (dk_at dksX5_undo_1 0 rfl rfl)
theorem dX5_undo_25 : decode cX5_undo 25 = .ok (.aload_n 0, 1) := dk_42 (dk_at dksX5_undo_1 2 rfl rfl)
theorem dX5_undo_26 : decode cX5_undo 26 = .ok (.getfield 121, 3) := dk_180 0 121 (dk_at dksX5_undo_1 3 rfl rfl)
theorem dX5_undo_29 : decode cX5_undo 29 = .ok (.imul, 1) := dk_104 (dk_at dksX5_undo_1 6 rfl rfl)
theorem dX5_undo_30 : decode cX5_undo 30 = .ok (.iadd, 1) := dk_96 (dk_at dksX5_undo_1 7 rfl rfl)
theorem dX5_undo_31 : decode cX5_undo 31 = .ok (.iconst 0, 1) := dk_3 (dk_at dksX5_undo_1 8 rfl rfl)
theorem dX5_undo_32 : decode cX5_undo 32 = .ok (.invokevirtual 154, 3) := dk_182 0 154 (dk_at dksX5_undo_1 9 rfl rfl)
theorem dX5_undo_35 : decode cX5_undo 35 = .ok (.aload_n 0, 1) := dk_42 (dk_at dksX5_undo_1 12 rfl rfl)
theorem dX5_undo_36 : decode cX5_undo 36 = .ok (.getfield 121, 3) := dk_180 0 121 (dk_at dksX5_undo_1 13 rfl rfl)
theorem dX5_undo_39 : decode cX5_undo 39 = .ok (.ireturn, 1) := dk_172 (dk_at dksX5_undo_1 16 rfl rfl)
abbrev cX5_keep : ByteArray := prog_15_method_51_code
def yX5_keep : MethodName := ⟨RX5, "keep", "(I)I"⟩
def dkwX5_keep_1 : List UInt8 := [182, 0, 154, 42, 180, 0, 16, 27, 4, 84, 42, 180, 0, 7, 3, 46, 172]
abbrev dktX5_keep_1 : List UInt8 := dkwX5_keep_1 ++ []
def dkwX5_keep_0 : List UInt8 := [27, 133, 9, 10, 184, 0, 47, 154, 0, 6, 16, 254, 172, 42, 3, 17, 2, 10, 16, 58, 27, 104, 96]
abbrev dktX5_keep_0 : List UInt8 := dkwX5_keep_0 ++ dktX5_keep_1
theorem dksX5_keep_0 : cX5_keep.data.toList.drop 0 = dktX5_keep_0 := by decide +kernel
theorem dksX5_keep_1 : cX5_keep.data.toList.drop 23 = dktX5_keep_1 := dk_seg dksX5_keep_0 23 rfl rfl
theorem dX5_keep_0 : decode cX5_keep 0 = .ok (.iload_n 1, 1) := dk_27 (dk_at dksX5_keep_0 0 rfl rfl)
theorem dX5_keep_1 : decode cX5_keep 1 = .ok (.i2l, 1) := dk_133 (dk_at dksX5_keep_0 1 rfl rfl)
theorem dX5_keep_2 : decode cX5_keep 2 = .ok (.lconst 0, 1) := dk_9 (dk_at dksX5_keep_0 2 rfl rfl)
theorem dX5_keep_3 : decode cX5_keep 3 = .ok (.lconst 1, 1) := dk_10 (dk_at dksX5_keep_0 3 rfl rfl)
theorem dX5_keep_4 : decode cX5_keep 4 = .ok (.invokestatic 47, 3) := dk_184 0 47 (dk_at dksX5_keep_0 4 rfl rfl)
theorem dX5_keep_7 : decode cX5_keep 7 = .ok (.ifCond .ne 6, 3) := dk_154 0 6 (dk_at dksX5_keep_0 7 rfl rfl)
theorem dX5_keep_10 : decode cX5_keep 10 = .ok (.bipush (-2), 2) := dk_16 254 (dk_at dksX5_keep_0 10 rfl rfl)
theorem dX5_keep_12 : decode cX5_keep 12 = .ok (.ireturn, 1) := dk_172 (dk_at dksX5_keep_0 12 rfl rfl)
theorem dX5_keep_13 : decode cX5_keep 13 = .ok (.aload_n 0, 1) := dk_42 (dk_at dksX5_keep_0 13 rfl rfl)
theorem dX5_keep_14 : decode cX5_keep 14 = .ok (.iconst 0, 1) := dk_3 (dk_at dksX5_keep_0 14 rfl rfl)
theorem dX5_keep_15 : decode cX5_keep 15 = .ok (.sipush 522, 3) := dk_17 2 10 (dk_at dksX5_keep_0 15 rfl rfl)
theorem dX5_keep_18 : decode cX5_keep 18 = .ok (.bipush 58, 2) := dk_16 58 (dk_at dksX5_keep_0 18 rfl rfl)
theorem dX5_keep_20 : decode cX5_keep 20 = .ok (.iload_n 1, 1) := dk_27 (dk_at dksX5_keep_0 20 rfl rfl)
theorem dX5_keep_21 : decode cX5_keep 21 = .ok (.imul, 1) := dk_104 (dk_at dksX5_keep_0 21 rfl rfl)
theorem dX5_keep_22 : decode cX5_keep 22 = .ok (.iadd, 1) := dk_96 (dk_at dksX5_keep_0 22 rfl rfl)
theorem dX5_keep_23 : decode cX5_keep 23 = .ok (.invokevirtual 154, 3) := dk_182 0 154 (dk_at dksX5_keep_1 0 rfl rfl)
theorem dX5_keep_26 : decode cX5_keep 26 = .ok (.aload_n 0, 1) := dk_42 (dk_at dksX5_keep_1 3 rfl rfl)
theorem dX5_keep_27 : decode cX5_keep 27 = .ok (.getfield 16, 3) := dk_180 0 16 (dk_at dksX5_keep_1 4 rfl rfl)
theorem dX5_keep_30 : decode cX5_keep 30 = .ok (.iload_n 1, 1) := dk_27 (dk_at dksX5_keep_1 7 rfl rfl)
theorem dX5_keep_31 : decode cX5_keep 31 = .ok (.iconst 1, 1) := dk_4 (dk_at dksX5_keep_1 8 rfl rfl)
theorem dX5_keep_32 : decode cX5_keep 32 = .ok (.bastore, 1) := dk_84 (dk_at dksX5_keep_1 9 rfl rfl)
theorem dX5_keep_33 : decode cX5_keep 33 = .ok (.aload_n 0, 1) := dk_42 (dk_at dksX5_keep_1 10 rfl rfl)
theorem dX5_keep_34 : decode cX5_keep 34 = .ok (.getfield 7, 3) := dk_180 0 7 (dk_at dksX5_keep_1 11 rfl rfl)
theorem dX5_keep_37 : decode cX5_keep 37 = .ok (.iconst 0, 1) := dk_3 (dk_at dksX5_keep_1 14 rfl rfl)
theorem dX5_keep_38 : decode cX5_keep 38 = .ok (.iaload, 1) := dk_46 (dk_at dksX5_keep_1 15 rfl rfl)
theorem dX5_keep_39 : decode cX5_keep 39 = .ok (.ireturn, 1) := dk_172 (dk_at dksX5_keep_1 16 rfl rfl)
abbrev cX5_back : ByteArray := prog_15_method_52_code
def yX5_back : MethodName := ⟨RX5, "back", "(I)I"⟩
def dkwX5_back_2 : List UInt8 := [46, 172]
abbrev dktX5_back_2 : List UInt8 := dkwX5_back_2 ++ []
def dkwX5_back_1 : List UInt8 := [172, 42, 17, 2, 10, 16, 58, 27, 104, 96, 3, 182, 0, 154, 42, 3, 181, 0, 121, 42, 180, 0, 7, 3]
abbrev dktX5_back_1 : List UInt8 := dkwX5_back_1 ++ dktX5_back_2
def dkwX5_back_0 : List UInt8 := [27, 133, 9, 10, 184, 0, 47, 154, 0, 6, 16, 254, 172, 42, 180, 0, 16, 27, 51, 154, 0, 6, 16, 252]
abbrev dktX5_back_0 : List UInt8 := dkwX5_back_0 ++ dktX5_back_1
theorem dksX5_back_0 : cX5_back.data.toList.drop 0 = dktX5_back_0 := by decide +kernel
theorem dksX5_back_1 : cX5_back.data.toList.drop 24 = dktX5_back_1 := dk_seg dksX5_back_0 24 rfl rfl
theorem dksX5_back_2 : cX5_back.data.toList.drop 48 = dktX5_back_2 := dk_seg dksX5_back_1 24 rfl rfl
theorem dX5_back_0 : decode cX5_back 0 = .ok (.iload_n 1, 1) := dk_27 (dk_at dksX5_back_0 0 rfl rfl)
theorem dX5_back_1 : decode cX5_back 1 = .ok (.i2l, 1) := dk_133 (dk_at dksX5_back_0 1 rfl rfl)
theorem dX5_back_2 : decode cX5_back 2 = .ok (.lconst 0, 1) := dk_9 (dk_at dksX5_back_0 2 rfl rfl)
theorem dX5_back_3 : decode cX5_back 3 = .ok (.lconst 1, 1) := dk_10 (dk_at dksX5_back_0 3 rfl rfl)
theorem dX5_back_4 : decode cX5_back 4 = .ok (.invokestatic 47, 3) := dk_184 0 47 (dk_at dksX5_back_0 4 rfl rfl)
theorem dX5_back_7 : decode cX5_back 7 = .ok (.ifCond .ne 6, 3) := dk_154 0 6 (dk_at dksX5_back_0 7 rfl rfl)
theorem dX5_back_10 : decode cX5_back 10 = .ok (.bipush (-2), 2) := dk_16 254 (dk_at dksX5_back_0 10 rfl rfl)
theorem dX5_back_12 : decode cX5_back 12 = .ok (.ireturn, 1) := dk_172 (dk_at dksX5_back_0 12 rfl rfl)
theorem dX5_back_13 : decode cX5_back 13 = .ok (.aload_n 0, 1) := dk_42 (dk_at dksX5_back_0 13 rfl rfl)
theorem dX5_back_14 : decode cX5_back 14 = .ok (.getfield 16, 3) := dk_180 0 16 (dk_at dksX5_back_0 14 rfl rfl)
theorem dX5_back_17 : decode cX5_back 17 = .ok (.iload_n 1, 1) := dk_27 (dk_at dksX5_back_0 17 rfl rfl)
theorem dX5_back_18 : decode cX5_back 18 = .ok (.baload, 1) := dk_51 (dk_at dksX5_back_0 18 rfl rfl)
theorem dX5_back_19 : decode cX5_back 19 = .ok (.ifCond .ne 6, 3) := dk_154 0 6 (dk_at dksX5_back_0 19 rfl rfl)
theorem dX5_back_22 : decode cX5_back 22 = .ok (.bipush (-4), 2) := dk_16 252 (dk_at dksX5_back_0 22 rfl rfl)
theorem dX5_back_24 : decode cX5_back 24 = .ok (.ireturn, 1) := dk_172 (dk_at dksX5_back_1 0 rfl rfl)
theorem dX5_back_25 : decode cX5_back 25 = .ok (.aload_n 0, 1) := dk_42 (dk_at dksX5_back_1 1 rfl rfl)
theorem dX5_back_26 : decode cX5_back 26 = .ok (.sipush 522, 3) := dk_17 2 10 (dk_at dksX5_back_1 2 rfl rfl)
theorem dX5_back_29 : decode cX5_back 29 = .ok (.bipush 58, 2) := dk_16 58 (dk_at dksX5_back_1 5 rfl rfl)
theorem dX5_back_31 : decode cX5_back 31 = .ok (.iload_n 1, 1) := dk_27 (dk_at dksX5_back_1 7 rfl rfl)
theorem dX5_back_32 : decode cX5_back 32 = .ok (.imul, 1) := dk_104 (dk_at dksX5_back_1 8 rfl rfl)
theorem dX5_back_33 : decode cX5_back 33 = .ok (.iadd, 1) := dk_96 (dk_at dksX5_back_1 9 rfl rfl)
theorem dX5_back_34 : decode cX5_back 34 = .ok (.iconst 0, 1) := dk_3 (dk_at dksX5_back_1 10 rfl rfl)
theorem dX5_back_35 : decode cX5_back 35 = .ok (.invokevirtual 154, 3) := dk_182 0 154 (dk_at dksX5_back_1 11 rfl rfl)
theorem dX5_back_38 : decode cX5_back 38 = .ok (.aload_n 0, 1) := dk_42 (dk_at dksX5_back_1 14 rfl rfl)
theorem dX5_back_39 : decode cX5_back 39 = .ok (.iconst 0, 1) := dk_3 (dk_at dksX5_back_1 15 rfl rfl)
theorem dX5_back_40 : decode cX5_back 40 = .ok (.putfield 121, 3) := dk_181 0 121 (dk_at dksX5_back_1 16 rfl rfl)
theorem dX5_back_43 : decode cX5_back 43 = .ok (.aload_n 0, 1) := dk_42 (dk_at dksX5_back_1 19 rfl rfl)
theorem dX5_back_44 : decode cX5_back 44 = .ok (.getfield 7, 3) := dk_180 0 7 (dk_at dksX5_back_1 20 rfl rfl)
theorem dX5_back_47 : decode cX5_back 47 = .ok (.iconst 0, 1) := dk_3 (dk_at dksX5_back_1 23 rfl rfl)
theorem dX5_back_48 : decode cX5_back 48 = .ok (.iaload, 1) := dk_46 (dk_at dksX5_back_2 0 rfl rfl)
theorem dX5_back_49 : decode cX5_back 49 = .ok (.ireturn, 1) := dk_172 (dk_at dksX5_back_2 1 rfl rfl)
abbrev cX5_least : ByteArray := prog_15_method_54_code
def yX5_least : MethodName := ⟨RX5, "least", "(I)I"⟩
def dkwX5_least_3 : List UInt8 := [153, 0, 7, 4, 167, 0, 4, 3, 172, 16, 253, 172]
abbrev dktX5_least_3 : List UInt8 := dkwX5_least_3 ++ []
def dkwX5_least_2 : List UInt8 := [42, 180, 0, 87, 172, 42, 180, 0, 90, 172, 42, 182, 0, 179, 172, 42, 182, 0, 182, 172, 42, 182, 0, 188]
abbrev dktX5_least_2 : List UInt8 := dkwX5_least_2 ++ dktX5_least_3
def dkwX5_least_1 : List UInt8 := [170, 0, 0, 0, 0, 0, 68, 0, 0, 0, 0, 0, 0, 0, 4, 0, 0, 0, 35, 0, 0, 0, 40, 0, 0, 0, 45, 0, 0, 0, 50, 0, 0, 0, 55]
abbrev dktX5_least_1 : List UInt8 := dkwX5_least_1 ++ dktX5_least_2
def dkwX5_least_0 : List UInt8 := [27]
abbrev dktX5_least_0 : List UInt8 := dkwX5_least_0 ++ dktX5_least_1
theorem dksX5_least_0 : cX5_least.data.toList.drop 0 = dktX5_least_0 := by decide +kernel
theorem dksX5_least_1 : cX5_least.data.toList.drop 1 = dktX5_least_1 := dk_seg dksX5_least_0 1 rfl rfl
theorem dksX5_least_2 : cX5_least.data.toList.drop 36 = dktX5_least_2 := dk_seg dksX5_least_1 35 rfl rfl
theorem dksX5_least_3 : cX5_least.data.toList.drop 60 = dktX5_least_3 := dk_seg dksX5_least_2 24 rfl rfl
theorem dX5_least_0 : decode cX5_least 0 = .ok (.iload_n 1, 1) := dk_27 (dk_at dksX5_least_0 0 rfl rfl)
theorem dX5_least_1 : decode cX5_least 1 = .ok (.tableswitch 68 0 4 #[35, 40, 45, 50, 55], 35) := by decide +kernel
theorem dX5_least_36 : decode cX5_least 36 = .ok (.aload_n 0, 1) := dk_42 (dk_at dksX5_least_2 0 rfl rfl)
theorem dX5_least_37 : decode cX5_least 37 = .ok (.getfield 87, 3) := dk_180 0 87 (dk_at dksX5_least_2 1 rfl rfl)
theorem dX5_least_40 : decode cX5_least 40 = .ok (.ireturn, 1) := dk_172 (dk_at dksX5_least_2 4 rfl rfl)
theorem dX5_least_41 : decode cX5_least 41 = .ok (.aload_n 0, 1) := dk_42 (dk_at dksX5_least_2 5 rfl rfl)
theorem dX5_least_42 : decode cX5_least 42 = .ok (.getfield 90, 3) := dk_180 0 90 (dk_at dksX5_least_2 6 rfl rfl)
theorem dX5_least_45 : decode cX5_least 45 = .ok (.ireturn, 1) := dk_172 (dk_at dksX5_least_2 9 rfl rfl)
theorem dX5_least_46 : decode cX5_least 46 = .ok (.aload_n 0, 1) := dk_42 (dk_at dksX5_least_2 10 rfl rfl)
theorem dX5_least_47 : decode cX5_least 47 = .ok (.invokevirtual 179, 3) := dk_182 0 179 (dk_at dksX5_least_2 11 rfl rfl)
theorem dX5_least_50 : decode cX5_least 50 = .ok (.ireturn, 1) := dk_172 (dk_at dksX5_least_2 14 rfl rfl)
theorem dX5_least_51 : decode cX5_least 51 = .ok (.aload_n 0, 1) := dk_42 (dk_at dksX5_least_2 15 rfl rfl)
theorem dX5_least_52 : decode cX5_least 52 = .ok (.invokevirtual 182, 3) := dk_182 0 182 (dk_at dksX5_least_2 16 rfl rfl)
theorem dX5_least_55 : decode cX5_least 55 = .ok (.ireturn, 1) := dk_172 (dk_at dksX5_least_2 19 rfl rfl)
theorem dX5_least_56 : decode cX5_least 56 = .ok (.aload_n 0, 1) := dk_42 (dk_at dksX5_least_2 20 rfl rfl)
theorem dX5_least_57 : decode cX5_least 57 = .ok (.invokevirtual 188, 3) := dk_182 0 188 (dk_at dksX5_least_2 21 rfl rfl)
theorem dX5_least_60 : decode cX5_least 60 = .ok (.ifCond .eq 7, 3) := dk_153 0 7 (dk_at dksX5_least_3 0 rfl rfl)
theorem dX5_least_63 : decode cX5_least 63 = .ok (.iconst 1, 1) := dk_4 (dk_at dksX5_least_3 3 rfl rfl)
theorem dX5_least_64 : decode cX5_least 64 = .ok (.goto 4, 3) := dk_167 0 4 (dk_at dksX5_least_3 4 rfl rfl)
theorem dX5_least_67 : decode cX5_least 67 = .ok (.iconst 0, 1) := dk_3 (dk_at dksX5_least_3 7 rfl rfl)
theorem dX5_least_68 : decode cX5_least 68 = .ok (.ireturn, 1) := dk_172 (dk_at dksX5_least_3 8 rfl rfl)
theorem dX5_least_69 : decode cX5_least 69 = .ok (.bipush (-3), 2) := dk_16 253 (dk_at dksX5_least_3 9 rfl rfl)
theorem dX5_least_71 : decode cX5_least 71 = .ok (.ireturn, 1) := dk_172 (dk_at dksX5_least_3 11 rfl rfl)
abbrev cX5_isSame : ByteArray := prog_15_method_53_code
def yX5_isSame : MethodName := ⟨RX5, "isSame", "()Z"⟩
def dkwX5_isSame_3 : List UInt8 := [167, 0, 4, 3, 60, 132, 2, 1, 167, 255, 221, 27, 172]
abbrev dktX5_isSame_3 : List UInt8 := dkwX5_isSame_3 ++ []
def dkwX5_isSame_2 : List UInt8 := [162, 0, 33, 27, 153, 0, 29, 42, 28, 182, 0, 145, 42, 180, 0, 13, 28, 46, 160, 0, 7, 4]
abbrev dktX5_isSame_2 : List UInt8 := dkwX5_isSame_2 ++ dktX5_isSame_3
def dkwX5_isSame_1 : List UInt8 := [42, 180, 0, 7, 3, 46, 160, 0, 7, 4, 167, 0, 4, 3, 60, 3, 61, 28, 42, 180, 0, 87]
abbrev dktX5_isSame_1 : List UInt8 := dkwX5_isSame_1 ++ dktX5_isSame_2
def dkwX5_isSame_0 : List UInt8 := [42, 180, 0, 87, 158, 0, 33, 42, 180, 0, 87, 42, 180, 0, 7, 4, 46, 160, 0, 20, 42, 180, 0, 90]
abbrev dktX5_isSame_0 : List UInt8 := dkwX5_isSame_0 ++ dktX5_isSame_1
theorem dksX5_isSame_0 : cX5_isSame.data.toList.drop 0 = dktX5_isSame_0 := by decide +kernel
theorem dksX5_isSame_1 : cX5_isSame.data.toList.drop 24 = dktX5_isSame_1 := dk_seg dksX5_isSame_0 24 rfl rfl
theorem dksX5_isSame_2 : cX5_isSame.data.toList.drop 46 = dktX5_isSame_2 := dk_seg dksX5_isSame_1 22 rfl rfl
theorem dksX5_isSame_3 : cX5_isSame.data.toList.drop 68 = dktX5_isSame_3 := dk_seg dksX5_isSame_2 22 rfl rfl
theorem dX5_isSame_0 : decode cX5_isSame 0 = .ok (.aload_n 0, 1) := dk_42 (dk_at dksX5_isSame_0 0 rfl rfl)
theorem dX5_isSame_1 : decode cX5_isSame 1 = .ok (.getfield 87, 3) := dk_180 0 87 (dk_at dksX5_isSame_0 1 rfl rfl)
theorem dX5_isSame_4 : decode cX5_isSame 4 = .ok (.ifCond .le 33, 3) := dk_158 0 33 (dk_at dksX5_isSame_0 4 rfl rfl)
theorem dX5_isSame_7 : decode cX5_isSame 7 = .ok (.aload_n 0, 1) := dk_42 (dk_at dksX5_isSame_0 7 rfl rfl)
theorem dX5_isSame_8 : decode cX5_isSame 8 = .ok (.getfield 87, 3) := dk_180 0 87 (dk_at dksX5_isSame_0 8 rfl rfl)
theorem dX5_isSame_11 : decode cX5_isSame 11 = .ok (.aload_n 0, 1) := dk_42 (dk_at dksX5_isSame_0 11 rfl rfl)
theorem dX5_isSame_12 : decode cX5_isSame 12 = .ok (.getfield 7, 3) := dk_180 0 7 (dk_at dksX5_isSame_0 12 rfl rfl)
theorem dX5_isSame_15 : decode cX5_isSame 15 = .ok (.iconst 1, 1) := dk_4 (dk_at dksX5_isSame_0 15 rfl rfl)
theorem dX5_isSame_16 : decode cX5_isSame 16 = .ok (.iaload, 1) := dk_46 (dk_at dksX5_isSame_0 16 rfl rfl)
theorem dX5_isSame_17 : decode cX5_isSame 17 = .ok (.if_icmp .ne 20, 3) := dk_160 0 20 (dk_at dksX5_isSame_0 17 rfl rfl)
theorem dX5_isSame_20 : decode cX5_isSame 20 = .ok (.aload_n 0, 1) := dk_42 (dk_at dksX5_isSame_0 20 rfl rfl)
theorem dX5_isSame_21 : decode cX5_isSame 21 = .ok (.getfield 90, 3) := dk_180 0 90 (dk_at dksX5_isSame_0 21 rfl rfl)
theorem dX5_isSame_24 : decode cX5_isSame 24 = .ok (.aload_n 0, 1) := dk_42 (dk_at dksX5_isSame_1 0 rfl rfl)
theorem dX5_isSame_25 : decode cX5_isSame 25 = .ok (.getfield 7, 3) := dk_180 0 7 (dk_at dksX5_isSame_1 1 rfl rfl)
theorem dX5_isSame_28 : decode cX5_isSame 28 = .ok (.iconst 0, 1) := dk_3 (dk_at dksX5_isSame_1 4 rfl rfl)
theorem dX5_isSame_29 : decode cX5_isSame 29 = .ok (.iaload, 1) := dk_46 (dk_at dksX5_isSame_1 5 rfl rfl)
theorem dX5_isSame_30 : decode cX5_isSame 30 = .ok (.if_icmp .ne 7, 3) := dk_160 0 7 (dk_at dksX5_isSame_1 6 rfl rfl)
theorem dX5_isSame_33 : decode cX5_isSame 33 = .ok (.iconst 1, 1) := dk_4 (dk_at dksX5_isSame_1 9 rfl rfl)
theorem dX5_isSame_34 : decode cX5_isSame 34 = .ok (.goto 4, 3) := dk_167 0 4 (dk_at dksX5_isSame_1 10 rfl rfl)
theorem dX5_isSame_37 : decode cX5_isSame 37 = .ok (.iconst 0, 1) := dk_3 (dk_at dksX5_isSame_1 13 rfl rfl)
theorem dX5_isSame_38 : decode cX5_isSame 38 = .ok (.istore_n 1, 1) := dk_60 (dk_at dksX5_isSame_1 14 rfl rfl)
theorem dX5_isSame_39 : decode cX5_isSame 39 = .ok (.iconst 0, 1) := dk_3 (dk_at dksX5_isSame_1 15 rfl rfl)
theorem dX5_isSame_40 : decode cX5_isSame 40 = .ok (.istore_n 2, 1) := dk_61 (dk_at dksX5_isSame_1 16 rfl rfl)
theorem dX5_isSame_41 : decode cX5_isSame 41 = .ok (.iload_n 2, 1) := dk_28 (dk_at dksX5_isSame_1 17 rfl rfl)
theorem dX5_isSame_42 : decode cX5_isSame 42 = .ok (.aload_n 0, 1) := dk_42 (dk_at dksX5_isSame_1 18 rfl rfl)
theorem dX5_isSame_43 : decode cX5_isSame 43 = .ok (.getfield 87, 3) := dk_180 0 87 (dk_at dksX5_isSame_1 19 rfl rfl)
theorem dX5_isSame_46 : decode cX5_isSame 46 = .ok (.if_icmp .ge 33, 3) := dk_162 0 33 (dk_at dksX5_isSame_2 0 rfl rfl)
theorem dX5_isSame_49 : decode cX5_isSame 49 = .ok (.iload_n 1, 1) := dk_27 (dk_at dksX5_isSame_2 3 rfl rfl)
theorem dX5_isSame_50 : decode cX5_isSame 50 = .ok (.ifCond .eq 29, 3) := dk_153 0 29 (dk_at dksX5_isSame_2 4 rfl rfl)
theorem dX5_isSame_53 : decode cX5_isSame 53 = .ok (.aload_n 0, 1) := dk_42 (dk_at dksX5_isSame_2 7 rfl rfl)
theorem dX5_isSame_54 : decode cX5_isSame 54 = .ok (.iload_n 2, 1) := dk_28 (dk_at dksX5_isSame_2 8 rfl rfl)
theorem dX5_isSame_55 : decode cX5_isSame 55 = .ok (.invokevirtual 145, 3) := dk_182 0 145 (dk_at dksX5_isSame_2 9 rfl rfl)
theorem dX5_isSame_58 : decode cX5_isSame 58 = .ok (.aload_n 0, 1) := dk_42 (dk_at dksX5_isSame_2 12 rfl rfl)
theorem dX5_isSame_59 : decode cX5_isSame 59 = .ok (.getfield 13, 3) := dk_180 0 13 (dk_at dksX5_isSame_2 13 rfl rfl)
theorem dX5_isSame_62 : decode cX5_isSame 62 = .ok (.iload_n 2, 1) := dk_28 (dk_at dksX5_isSame_2 16 rfl rfl)
theorem dX5_isSame_63 : decode cX5_isSame 63 = .ok (.iaload, 1) := dk_46 (dk_at dksX5_isSame_2 17 rfl rfl)
theorem dX5_isSame_64 : decode cX5_isSame 64 = .ok (.if_icmp .ne 7, 3) := dk_160 0 7 (dk_at dksX5_isSame_2 18 rfl rfl)
theorem dX5_isSame_67 : decode cX5_isSame 67 = .ok (.iconst 1, 1) := dk_4 (dk_at dksX5_isSame_2 21 rfl rfl)
theorem dX5_isSame_68 : decode cX5_isSame 68 = .ok (.goto 4, 3) := dk_167 0 4 (dk_at dksX5_isSame_3 0 rfl rfl)
theorem dX5_isSame_71 : decode cX5_isSame 71 = .ok (.iconst 0, 1) := dk_3 (dk_at dksX5_isSame_3 3 rfl rfl)
theorem dX5_isSame_72 : decode cX5_isSame 72 = .ok (.istore_n 1, 1) := dk_60 (dk_at dksX5_isSame_3 4 rfl rfl)
theorem dX5_isSame_73 : decode cX5_isSame 73 = .ok (.iinc 2 1, 3) := dk_132 2 1 (dk_at dksX5_isSame_3 5 rfl rfl)
theorem dX5_isSame_76 : decode cX5_isSame 76 = .ok (.goto (-35), 3) := dk_167 255 221 (dk_at dksX5_isSame_3 8 rfl rfl)
theorem dX5_isSame_79 : decode cX5_isSame 79 = .ok (.iload_n 1, 1) := dk_27 (dk_at dksX5_isSame_3 11 rfl rfl)
theorem dX5_isSame_80 : decode cX5_isSame 80 = .ok (.ireturn, 1) := dk_172 (dk_at dksX5_isSame_3 12 rfl rfl)
abbrev cX5_sampled : ByteArray := prog_15_method_55_code
def yX5_sampled : MethodName := ⟨RX5, "sampled", "(II)I"⟩
def dkwX5_sampled_2 : List UInt8 := [3, 172]
abbrev dktX5_sampled_2 : List UInt8 := dkwX5_sampled_2 ++ []
def dkwX5_sampled_1 : List UInt8 := [161, 0, 7, 2, 167, 0, 21, 42, 180, 0, 13, 27, 46, 28, 184, 0, 124, 153, 0, 7, 4, 167, 0, 4]
abbrev dktX5_sampled_1 : List UInt8 := dkwX5_sampled_1 ++ dktX5_sampled_2
def dkwX5_sampled_0 : List UInt8 := [27, 155, 0, 7, 28, 156, 0, 6, 16, 253, 172, 27, 42, 180, 0, 87, 162, 0, 11, 28, 42, 180, 0, 90]
abbrev dktX5_sampled_0 : List UInt8 := dkwX5_sampled_0 ++ dktX5_sampled_1
theorem dksX5_sampled_0 : cX5_sampled.data.toList.drop 0 = dktX5_sampled_0 := by decide +kernel
theorem dksX5_sampled_1 : cX5_sampled.data.toList.drop 24 = dktX5_sampled_1 := dk_seg dksX5_sampled_0 24 rfl rfl
theorem dksX5_sampled_2 : cX5_sampled.data.toList.drop 48 = dktX5_sampled_2 := dk_seg dksX5_sampled_1 24 rfl rfl
theorem dX5_sampled_0 : decode cX5_sampled 0 = .ok (.iload_n 1, 1) := dk_27 (dk_at dksX5_sampled_0 0 rfl rfl)
theorem dX5_sampled_1 : decode cX5_sampled 1 = .ok (.ifCond .lt 7, 3) := dk_155 0 7 (dk_at dksX5_sampled_0 1 rfl rfl)
theorem dX5_sampled_4 : decode cX5_sampled 4 = .ok (.iload_n 2, 1) := dk_28 (dk_at dksX5_sampled_0 4 rfl rfl)
theorem dX5_sampled_5 : decode cX5_sampled 5 = .ok (.ifCond .ge 6, 3) := dk_156 0 6 (dk_at dksX5_sampled_0 5 rfl rfl)
theorem dX5_sampled_8 : decode cX5_sampled 8 = .ok (.bipush (-3), 2) := dk_16 253 (dk_at dksX5_sampled_0 8 rfl rfl)
theorem dX5_sampled_10 : decode cX5_sampled 10 = .ok (.ireturn, 1) := dk_172 (dk_at dksX5_sampled_0 10 rfl rfl)
theorem dX5_sampled_11 : decode cX5_sampled 11 = .ok (.iload_n 1, 1) := dk_27 (dk_at dksX5_sampled_0 11 rfl rfl)
theorem dX5_sampled_12 : decode cX5_sampled 12 = .ok (.aload_n 0, 1) := dk_42 (dk_at dksX5_sampled_0 12 rfl rfl)
theorem dX5_sampled_13 : decode cX5_sampled 13 = .ok (.getfield 87, 3) := dk_180 0 87 (dk_at dksX5_sampled_0 13 rfl rfl)
theorem dX5_sampled_16 : decode cX5_sampled 16 = .ok (.if_icmp .ge 11, 3) := dk_162 0 11 (dk_at dksX5_sampled_0 16 rfl rfl)
theorem dX5_sampled_19 : decode cX5_sampled 19 = .ok (.iload_n 2, 1) := dk_28 (dk_at dksX5_sampled_0 19 rfl rfl)
theorem dX5_sampled_20 : decode cX5_sampled 20 = .ok (.aload_n 0, 1) := dk_42 (dk_at dksX5_sampled_0 20 rfl rfl)
theorem dX5_sampled_21 : decode cX5_sampled 21 = .ok (.getfield 90, 3) := dk_180 0 90 (dk_at dksX5_sampled_0 21 rfl rfl)
theorem dX5_sampled_24 : decode cX5_sampled 24 = .ok (.if_icmp .lt 7, 3) := dk_161 0 7 (dk_at dksX5_sampled_1 0 rfl rfl)
theorem dX5_sampled_27 : decode cX5_sampled 27 = .ok (.iconst (-1), 1) := dk_2 (dk_at dksX5_sampled_1 3 rfl rfl)
theorem dX5_sampled_28 : decode cX5_sampled 28 = .ok (.goto 21, 3) := dk_167 0 21 (dk_at dksX5_sampled_1 4 rfl rfl)
theorem dX5_sampled_31 : decode cX5_sampled 31 = .ok (.aload_n 0, 1) := dk_42 (dk_at dksX5_sampled_1 7 rfl rfl)
theorem dX5_sampled_32 : decode cX5_sampled 32 = .ok (.getfield 13, 3) := dk_180 0 13 (dk_at dksX5_sampled_1 8 rfl rfl)
theorem dX5_sampled_35 : decode cX5_sampled 35 = .ok (.iload_n 1, 1) := dk_27 (dk_at dksX5_sampled_1 11 rfl rfl)
theorem dX5_sampled_36 : decode cX5_sampled 36 = .ok (.iaload, 1) := dk_46 (dk_at dksX5_sampled_1 12 rfl rfl)
theorem dX5_sampled_37 : decode cX5_sampled 37 = .ok (.iload_n 2, 1) := dk_28 (dk_at dksX5_sampled_1 13 rfl rfl)
theorem dX5_sampled_38 : decode cX5_sampled 38 = .ok (.invokestatic 124, 3) := dk_184 0 124 (dk_at dksX5_sampled_1 14 rfl rfl)
theorem dX5_sampled_41 : decode cX5_sampled 41 = .ok (.ifCond .eq 7, 3) := dk_153 0 7 (dk_at dksX5_sampled_1 17 rfl rfl)
theorem dX5_sampled_44 : decode cX5_sampled 44 = .ok (.iconst 1, 1) := dk_4 (dk_at dksX5_sampled_1 20 rfl rfl)
theorem dX5_sampled_45 : decode cX5_sampled 45 = .ok (.goto 4, 3) := dk_167 0 4 (dk_at dksX5_sampled_1 21 rfl rfl)
theorem dX5_sampled_48 : decode cX5_sampled 48 = .ok (.iconst 0, 1) := dk_3 (dk_at dksX5_sampled_2 0 rfl rfl)
theorem dX5_sampled_49 : decode cX5_sampled 49 = .ok (.ireturn, 1) := dk_172 (dk_at dksX5_sampled_2 1 rfl rfl)
abbrev cX5_tamed : ByteArray := prog_15_method_56_code
def yX5_tamed : MethodName := ⟨RX5, "tamed", "(II)I"⟩
def dkwX5_tamed_4 : List UInt8 := [21, 6, 184, 0, 193, 54, 5, 132, 6, 1, 167, 255, 199, 21, 5, 172]
abbrev dktX5_tamed_4 : List UInt8 := dkwX5_tamed_4 ++ []
def dkwX5_tamed_3 : List UInt8 := [21, 4, 4, 184, 0, 138, 28, 163, 0, 24, 29, 21, 6, 130, 21, 4, 3, 184, 0, 138, 28, 163, 0, 10]
abbrev dktX5_tamed_3 : List UInt8 := dkwX5_tamed_3 ++ dktX5_tamed_4
def dkwX5_tamed_2 : List UInt8 := [21, 6, 4, 21, 4, 120, 162, 0, 54, 21, 6, 184, 0, 193, 21, 5, 162, 0, 38, 29, 21, 6, 130]
abbrev dktX5_tamed_2 : List UInt8 := dkwX5_tamed_2 ++ dktX5_tamed_3
def dkwX5_tamed_1 : List UInt8 := [16, 253, 172, 42, 27, 182, 0, 145, 62, 42, 180, 0, 7, 3, 46, 54, 4, 21, 4, 54, 5, 3, 54, 6]
abbrev dktX5_tamed_1 : List UInt8 := dkwX5_tamed_1 ++ dktX5_tamed_2
def dkwX5_tamed_0 : List UInt8 := [42, 27, 182, 0, 142, 154, 0, 6, 16, 254, 172, 28, 133, 10, 20, 0, 191, 184, 0, 47, 154, 0, 6]
abbrev dktX5_tamed_0 : List UInt8 := dkwX5_tamed_0 ++ dktX5_tamed_1
theorem dksX5_tamed_0 : cX5_tamed.data.toList.drop 0 = dktX5_tamed_0 := by decide +kernel
theorem dksX5_tamed_1 : cX5_tamed.data.toList.drop 23 = dktX5_tamed_1 := dk_seg dksX5_tamed_0 23 rfl rfl
theorem dksX5_tamed_2 : cX5_tamed.data.toList.drop 47 = dktX5_tamed_2 := dk_seg dksX5_tamed_1 24 rfl rfl
theorem dksX5_tamed_3 : cX5_tamed.data.toList.drop 70 = dktX5_tamed_3 := dk_seg dksX5_tamed_2 23 rfl rfl
theorem dksX5_tamed_4 : cX5_tamed.data.toList.drop 94 = dktX5_tamed_4 := dk_seg dksX5_tamed_3 24 rfl rfl
theorem dX5_tamed_0 : decode cX5_tamed 0 = .ok (.aload_n 0, 1) := dk_42 (dk_at dksX5_tamed_0 0 rfl rfl)
theorem dX5_tamed_1 : decode cX5_tamed 1 = .ok (.iload_n 1, 1) := dk_27 (dk_at dksX5_tamed_0 1 rfl rfl)
theorem dX5_tamed_2 : decode cX5_tamed 2 = .ok (.invokevirtual 142, 3) := dk_182 0 142 (dk_at dksX5_tamed_0 2 rfl rfl)
theorem dX5_tamed_5 : decode cX5_tamed 5 = .ok (.ifCond .ne 6, 3) := dk_154 0 6 (dk_at dksX5_tamed_0 5 rfl rfl)
theorem dX5_tamed_8 : decode cX5_tamed 8 = .ok (.bipush (-2), 2) := dk_16 254 (dk_at dksX5_tamed_0 8 rfl rfl)
theorem dX5_tamed_10 : decode cX5_tamed 10 = .ok (.ireturn, 1) := dk_172 (dk_at dksX5_tamed_0 10 rfl rfl)
theorem dX5_tamed_11 : decode cX5_tamed 11 = .ok (.iload_n 2, 1) := dk_28 (dk_at dksX5_tamed_0 11 rfl rfl)
theorem dX5_tamed_12 : decode cX5_tamed 12 = .ok (.i2l, 1) := dk_133 (dk_at dksX5_tamed_0 12 rfl rfl)
theorem dX5_tamed_13 : decode cX5_tamed 13 = .ok (.lconst 1, 1) := dk_10 (dk_at dksX5_tamed_0 13 rfl rfl)
theorem dX5_tamed_14 : decode cX5_tamed 14 = .ok (.ldc2_w 191, 3) := dk_20 0 191 (dk_at dksX5_tamed_0 14 rfl rfl)
theorem dX5_tamed_17 : decode cX5_tamed 17 = .ok (.invokestatic 47, 3) := dk_184 0 47 (dk_at dksX5_tamed_0 17 rfl rfl)
theorem dX5_tamed_20 : decode cX5_tamed 20 = .ok (.ifCond .ne 6, 3) := dk_154 0 6 (dk_at dksX5_tamed_0 20 rfl rfl)
theorem dX5_tamed_23 : decode cX5_tamed 23 = .ok (.bipush (-3), 2) := dk_16 253 (dk_at dksX5_tamed_1 0 rfl rfl)
theorem dX5_tamed_25 : decode cX5_tamed 25 = .ok (.ireturn, 1) := dk_172 (dk_at dksX5_tamed_1 2 rfl rfl)
theorem dX5_tamed_26 : decode cX5_tamed 26 = .ok (.aload_n 0, 1) := dk_42 (dk_at dksX5_tamed_1 3 rfl rfl)
theorem dX5_tamed_27 : decode cX5_tamed 27 = .ok (.iload_n 1, 1) := dk_27 (dk_at dksX5_tamed_1 4 rfl rfl)
theorem dX5_tamed_28 : decode cX5_tamed 28 = .ok (.invokevirtual 145, 3) := dk_182 0 145 (dk_at dksX5_tamed_1 5 rfl rfl)
theorem dX5_tamed_31 : decode cX5_tamed 31 = .ok (.istore_n 3, 1) := dk_62 (dk_at dksX5_tamed_1 8 rfl rfl)
theorem dX5_tamed_32 : decode cX5_tamed 32 = .ok (.aload_n 0, 1) := dk_42 (dk_at dksX5_tamed_1 9 rfl rfl)
theorem dX5_tamed_33 : decode cX5_tamed 33 = .ok (.getfield 7, 3) := dk_180 0 7 (dk_at dksX5_tamed_1 10 rfl rfl)
theorem dX5_tamed_36 : decode cX5_tamed 36 = .ok (.iconst 0, 1) := dk_3 (dk_at dksX5_tamed_1 13 rfl rfl)
theorem dX5_tamed_37 : decode cX5_tamed 37 = .ok (.iaload, 1) := dk_46 (dk_at dksX5_tamed_1 14 rfl rfl)
theorem dX5_tamed_38 : decode cX5_tamed 38 = .ok (.istore 4, 2) := dk_54 4 (dk_at dksX5_tamed_1 15 rfl rfl)
theorem dX5_tamed_40 : decode cX5_tamed 40 = .ok (.iload 4, 2) := dk_21 4 (dk_at dksX5_tamed_1 17 rfl rfl)
theorem dX5_tamed_42 : decode cX5_tamed 42 = .ok (.istore 5, 2) := dk_54 5 (dk_at dksX5_tamed_1 19 rfl rfl)
theorem dX5_tamed_44 : decode cX5_tamed 44 = .ok (.iconst 0, 1) := dk_3 (dk_at dksX5_tamed_1 21 rfl rfl)
theorem dX5_tamed_45 : decode cX5_tamed 45 = .ok (.istore 6, 2) := dk_54 6 (dk_at dksX5_tamed_1 22 rfl rfl)
theorem dX5_tamed_47 : decode cX5_tamed 47 = .ok (.iload 6, 2) := dk_21 6 (dk_at dksX5_tamed_2 0 rfl rfl)
theorem dX5_tamed_49 : decode cX5_tamed 49 = .ok (.iconst 1, 1) := dk_4 (dk_at dksX5_tamed_2 2 rfl rfl)
theorem dX5_tamed_50 : decode cX5_tamed 50 = .ok (.iload 4, 2) := dk_21 4 (dk_at dksX5_tamed_2 3 rfl rfl)
theorem dX5_tamed_52 : decode cX5_tamed 52 = .ok (.ishl, 1) := dk_120 (dk_at dksX5_tamed_2 5 rfl rfl)
theorem dX5_tamed_53 : decode cX5_tamed 53 = .ok (.if_icmp .ge 54, 3) := dk_162 0 54 (dk_at dksX5_tamed_2 6 rfl rfl)
theorem dX5_tamed_56 : decode cX5_tamed 56 = .ok (.iload 6, 2) := dk_21 6 (dk_at dksX5_tamed_2 9 rfl rfl)
theorem dX5_tamed_58 : decode cX5_tamed 58 = .ok (.invokestatic 193, 3) := dk_184 0 193 (dk_at dksX5_tamed_2 11 rfl rfl)
theorem dX5_tamed_61 : decode cX5_tamed 61 = .ok (.iload 5, 2) := dk_21 5 (dk_at dksX5_tamed_2 14 rfl rfl)
theorem dX5_tamed_63 : decode cX5_tamed 63 = .ok (.if_icmp .ge 38, 3) := dk_162 0 38 (dk_at dksX5_tamed_2 16 rfl rfl)
theorem dX5_tamed_66 : decode cX5_tamed 66 = .ok (.iload_n 3, 1) := dk_29 (dk_at dksX5_tamed_2 19 rfl rfl)
theorem dX5_tamed_67 : decode cX5_tamed 67 = .ok (.iload 6, 2) := dk_21 6 (dk_at dksX5_tamed_2 20 rfl rfl)
theorem dX5_tamed_69 : decode cX5_tamed 69 = .ok (.ixor, 1) := dk_130 (dk_at dksX5_tamed_2 22 rfl rfl)
theorem dX5_tamed_70 : decode cX5_tamed 70 = .ok (.iload 4, 2) := dk_21 4 (dk_at dksX5_tamed_3 0 rfl rfl)
theorem dX5_tamed_72 : decode cX5_tamed 72 = .ok (.iconst 1, 1) := dk_4 (dk_at dksX5_tamed_3 2 rfl rfl)
theorem dX5_tamed_73 : decode cX5_tamed 73 = .ok (.invokestatic 138, 3) := dk_184 0 138 (dk_at dksX5_tamed_3 3 rfl rfl)
theorem dX5_tamed_76 : decode cX5_tamed 76 = .ok (.iload_n 2, 1) := dk_28 (dk_at dksX5_tamed_3 6 rfl rfl)
theorem dX5_tamed_77 : decode cX5_tamed 77 = .ok (.if_icmp .gt 24, 3) := dk_163 0 24 (dk_at dksX5_tamed_3 7 rfl rfl)
theorem dX5_tamed_80 : decode cX5_tamed 80 = .ok (.iload_n 3, 1) := dk_29 (dk_at dksX5_tamed_3 10 rfl rfl)
theorem dX5_tamed_81 : decode cX5_tamed 81 = .ok (.iload 6, 2) := dk_21 6 (dk_at dksX5_tamed_3 11 rfl rfl)
theorem dX5_tamed_83 : decode cX5_tamed 83 = .ok (.ixor, 1) := dk_130 (dk_at dksX5_tamed_3 13 rfl rfl)
theorem dX5_tamed_84 : decode cX5_tamed 84 = .ok (.iload 4, 2) := dk_21 4 (dk_at dksX5_tamed_3 14 rfl rfl)
theorem dX5_tamed_86 : decode cX5_tamed 86 = .ok (.iconst 0, 1) := dk_3 (dk_at dksX5_tamed_3 16 rfl rfl)
theorem dX5_tamed_87 : decode cX5_tamed 87 = .ok (.invokestatic 138, 3) := dk_184 0 138 (dk_at dksX5_tamed_3 17 rfl rfl)
theorem dX5_tamed_90 : decode cX5_tamed 90 = .ok (.iload_n 2, 1) := dk_28 (dk_at dksX5_tamed_3 20 rfl rfl)
theorem dX5_tamed_91 : decode cX5_tamed 91 = .ok (.if_icmp .gt 10, 3) := dk_163 0 10 (dk_at dksX5_tamed_3 21 rfl rfl)
theorem dX5_tamed_94 : decode cX5_tamed 94 = .ok (.iload 6, 2) := dk_21 6 (dk_at dksX5_tamed_4 0 rfl rfl)
theorem dX5_tamed_96 : decode cX5_tamed 96 = .ok (.invokestatic 193, 3) := dk_184 0 193 (dk_at dksX5_tamed_4 2 rfl rfl)
theorem dX5_tamed_99 : decode cX5_tamed 99 = .ok (.istore 5, 2) := dk_54 5 (dk_at dksX5_tamed_4 5 rfl rfl)
theorem dX5_tamed_101 : decode cX5_tamed 101 = .ok (.iinc 6 1, 3) := dk_132 6 1 (dk_at dksX5_tamed_4 7 rfl rfl)
theorem dX5_tamed_104 : decode cX5_tamed 104 = .ok (.goto (-57), 3) := dk_167 255 199 (dk_at dksX5_tamed_4 10 rfl rfl)
theorem dX5_tamed_107 : decode cX5_tamed 107 = .ok (.iload 5, 2) := dk_21 5 (dk_at dksX5_tamed_4 13 rfl rfl)
theorem dX5_tamed_109 : decode cX5_tamed 109 = .ok (.ireturn, 1) := dk_172 (dk_at dksX5_tamed_4 15 rfl rfl)
abbrev cX5_ones : ByteArray := prog_15_method_4_code
def yX5_ones : MethodName := ⟨RX5, "ones", "(I)I"⟩
def dkwX5_ones_1 : List UInt8 := [27, 172]
abbrev dktX5_ones_1 : List UInt8 := dkwX5_ones_1 ++ []
def dkwX5_ones_0 : List UInt8 := [3, 60, 3, 61, 28, 16, 12, 162, 0, 17, 27, 26, 28, 122, 4, 126, 96, 60, 132, 2, 1, 167, 255, 239]
abbrev dktX5_ones_0 : List UInt8 := dkwX5_ones_0 ++ dktX5_ones_1
theorem dksX5_ones_0 : cX5_ones.data.toList.drop 0 = dktX5_ones_0 := by decide +kernel
theorem dksX5_ones_1 : cX5_ones.data.toList.drop 24 = dktX5_ones_1 := dk_seg dksX5_ones_0 24 rfl rfl
theorem dX5_ones_0 : decode cX5_ones 0 = .ok (.iconst 0, 1) := dk_3 (dk_at dksX5_ones_0 0 rfl rfl)
theorem dX5_ones_1 : decode cX5_ones 1 = .ok (.istore_n 1, 1) := dk_60 (dk_at dksX5_ones_0 1 rfl rfl)
theorem dX5_ones_2 : decode cX5_ones 2 = .ok (.iconst 0, 1) := dk_3 (dk_at dksX5_ones_0 2 rfl rfl)
theorem dX5_ones_3 : decode cX5_ones 3 = .ok (.istore_n 2, 1) := dk_61 (dk_at dksX5_ones_0 3 rfl rfl)
theorem dX5_ones_4 : decode cX5_ones 4 = .ok (.iload_n 2, 1) := dk_28 (dk_at dksX5_ones_0 4 rfl rfl)
theorem dX5_ones_5 : decode cX5_ones 5 = .ok (.bipush 12, 2) := dk_16 12 (dk_at dksX5_ones_0 5 rfl rfl)
theorem dX5_ones_7 : decode cX5_ones 7 = .ok (.if_icmp .ge 17, 3) := dk_162 0 17 (dk_at dksX5_ones_0 7 rfl rfl)
theorem dX5_ones_10 : decode cX5_ones 10 = .ok (.iload_n 1, 1) := dk_27 (dk_at dksX5_ones_0 10 rfl rfl)
theorem dX5_ones_11 : decode cX5_ones 11 = .ok (.iload_n 0, 1) := dk_26 (dk_at dksX5_ones_0 11 rfl rfl)
theorem dX5_ones_12 : decode cX5_ones 12 = .ok (.iload_n 2, 1) := dk_28 (dk_at dksX5_ones_0 12 rfl rfl)
theorem dX5_ones_13 : decode cX5_ones 13 = .ok (.ishr, 1) := dk_122 (dk_at dksX5_ones_0 13 rfl rfl)
theorem dX5_ones_14 : decode cX5_ones 14 = .ok (.iconst 1, 1) := dk_4 (dk_at dksX5_ones_0 14 rfl rfl)
theorem dX5_ones_15 : decode cX5_ones 15 = .ok (.iand, 1) := dk_126 (dk_at dksX5_ones_0 15 rfl rfl)
theorem dX5_ones_16 : decode cX5_ones 16 = .ok (.iadd, 1) := dk_96 (dk_at dksX5_ones_0 16 rfl rfl)
theorem dX5_ones_17 : decode cX5_ones 17 = .ok (.istore_n 1, 1) := dk_60 (dk_at dksX5_ones_0 17 rfl rfl)
theorem dX5_ones_18 : decode cX5_ones 18 = .ok (.iinc 2 1, 3) := dk_132 2 1 (dk_at dksX5_ones_0 18 rfl rfl)
theorem dX5_ones_21 : decode cX5_ones 21 = .ok (.goto (-17), 3) := dk_167 255 239 (dk_at dksX5_ones_0 21 rfl rfl)
theorem dX5_ones_24 : decode cX5_ones 24 = .ok (.iload_n 1, 1) := dk_27 (dk_at dksX5_ones_1 0 rfl rfl)
theorem dX5_ones_25 : decode cX5_ones 25 = .ok (.ireturn, 1) := dk_172 (dk_at dksX5_ones_1 1 rfl rfl)
abbrev cX5_changed : ByteArray := prog_15_method_58_code
def yX5_changed : MethodName := ⟨RX5, "changed", "(II)I"⟩
def dkwX5_changed_2 : List UInt8 := [182, 0, 185, 29, 172]
abbrev dktX5_changed_2 : List UInt8 := dkwX5_changed_2 ++ []
def dkwX5_changed_1 : List UInt8 := [42, 7, 27, 96, 7, 28, 96, 182, 0, 185, 42, 182, 0, 196, 62, 42, 7, 27, 96, 7, 28, 96]
abbrev dktX5_changed_1 : List UInt8 := dkwX5_changed_1 ++ dktX5_changed_2
def dkwX5_changed_0 : List UInt8 := [42, 27, 182, 0, 131, 153, 0, 16, 42, 28, 182, 0, 131, 153, 0, 8, 27, 28, 160, 0, 6, 16, 254, 172]
abbrev dktX5_changed_0 : List UInt8 := dkwX5_changed_0 ++ dktX5_changed_1
theorem dksX5_changed_0 : cX5_changed.data.toList.drop 0 = dktX5_changed_0 := by decide +kernel
theorem dksX5_changed_1 : cX5_changed.data.toList.drop 24 = dktX5_changed_1 := dk_seg dksX5_changed_0 24 rfl rfl
theorem dksX5_changed_2 : cX5_changed.data.toList.drop 46 = dktX5_changed_2 := dk_seg dksX5_changed_1 22 rfl rfl
theorem dX5_changed_0 : decode cX5_changed 0 = .ok (.aload_n 0, 1) := dk_42 (dk_at dksX5_changed_0 0 rfl rfl)
theorem dX5_changed_1 : decode cX5_changed 1 = .ok (.iload_n 1, 1) := dk_27 (dk_at dksX5_changed_0 1 rfl rfl)
theorem dX5_changed_2 : decode cX5_changed 2 = .ok (.invokevirtual 131, 3) := dk_182 0 131 (dk_at dksX5_changed_0 2 rfl rfl)
theorem dX5_changed_5 : decode cX5_changed 5 = .ok (.ifCond .eq 16, 3) := dk_153 0 16 (dk_at dksX5_changed_0 5 rfl rfl)
theorem dX5_changed_8 : decode cX5_changed 8 = .ok (.aload_n 0, 1) := dk_42 (dk_at dksX5_changed_0 8 rfl rfl)
theorem dX5_changed_9 : decode cX5_changed 9 = .ok (.iload_n 2, 1) := dk_28 (dk_at dksX5_changed_0 9 rfl rfl)
theorem dX5_changed_10 : decode cX5_changed 10 = .ok (.invokevirtual 131, 3) := dk_182 0 131 (dk_at dksX5_changed_0 10 rfl rfl)
theorem dX5_changed_13 : decode cX5_changed 13 = .ok (.ifCond .eq 8, 3) := dk_153 0 8 (dk_at dksX5_changed_0 13 rfl rfl)
theorem dX5_changed_16 : decode cX5_changed 16 = .ok (.iload_n 1, 1) := dk_27 (dk_at dksX5_changed_0 16 rfl rfl)
theorem dX5_changed_17 : decode cX5_changed 17 = .ok (.iload_n 2, 1) := dk_28 (dk_at dksX5_changed_0 17 rfl rfl)
theorem dX5_changed_18 : decode cX5_changed 18 = .ok (.if_icmp .ne 6, 3) := dk_160 0 6 (dk_at dksX5_changed_0 18 rfl rfl)
theorem dX5_changed_21 : decode cX5_changed 21 = .ok (.bipush (-2), 2) := dk_16 254 (dk_at dksX5_changed_0 21 rfl rfl)
theorem dX5_changed_23 : decode cX5_changed 23 = .ok (.ireturn, 1) := dk_172 (dk_at dksX5_changed_0 23 rfl rfl)
theorem dX5_changed_24 : decode cX5_changed 24 = .ok (.aload_n 0, 1) := dk_42 (dk_at dksX5_changed_1 0 rfl rfl)
theorem dX5_changed_25 : decode cX5_changed 25 = .ok (.iconst 4, 1) := dk_7 (dk_at dksX5_changed_1 1 rfl rfl)
theorem dX5_changed_26 : decode cX5_changed 26 = .ok (.iload_n 1, 1) := dk_27 (dk_at dksX5_changed_1 2 rfl rfl)
theorem dX5_changed_27 : decode cX5_changed 27 = .ok (.iadd, 1) := dk_96 (dk_at dksX5_changed_1 3 rfl rfl)
theorem dX5_changed_28 : decode cX5_changed 28 = .ok (.iconst 4, 1) := dk_7 (dk_at dksX5_changed_1 4 rfl rfl)
theorem dX5_changed_29 : decode cX5_changed 29 = .ok (.iload_n 2, 1) := dk_28 (dk_at dksX5_changed_1 5 rfl rfl)
theorem dX5_changed_30 : decode cX5_changed 30 = .ok (.iadd, 1) := dk_96 (dk_at dksX5_changed_1 6 rfl rfl)
theorem dX5_changed_31 : decode cX5_changed 31 = .ok (.invokevirtual 185, 3) := dk_182 0 185 (dk_at dksX5_changed_1 7 rfl rfl)
theorem dX5_changed_34 : decode cX5_changed 34 = .ok (.aload_n 0, 1) := dk_42 (dk_at dksX5_changed_1 10 rfl rfl)
theorem dX5_changed_35 : decode cX5_changed 35 = .ok (.invokevirtual 196, 3) := dk_182 0 196 (dk_at dksX5_changed_1 11 rfl rfl)
theorem dX5_changed_38 : decode cX5_changed 38 = .ok (.istore_n 3, 1) := dk_62 (dk_at dksX5_changed_1 14 rfl rfl)
theorem dX5_changed_39 : decode cX5_changed 39 = .ok (.aload_n 0, 1) := dk_42 (dk_at dksX5_changed_1 15 rfl rfl)
theorem dX5_changed_40 : decode cX5_changed 40 = .ok (.iconst 4, 1) := dk_7 (dk_at dksX5_changed_1 16 rfl rfl)
theorem dX5_changed_41 : decode cX5_changed 41 = .ok (.iload_n 1, 1) := dk_27 (dk_at dksX5_changed_1 17 rfl rfl)
theorem dX5_changed_42 : decode cX5_changed 42 = .ok (.iadd, 1) := dk_96 (dk_at dksX5_changed_1 18 rfl rfl)
theorem dX5_changed_43 : decode cX5_changed 43 = .ok (.iconst 4, 1) := dk_7 (dk_at dksX5_changed_1 19 rfl rfl)
theorem dX5_changed_44 : decode cX5_changed 44 = .ok (.iload_n 2, 1) := dk_28 (dk_at dksX5_changed_1 20 rfl rfl)
theorem dX5_changed_45 : decode cX5_changed 45 = .ok (.iadd, 1) := dk_96 (dk_at dksX5_changed_1 21 rfl rfl)
theorem dX5_changed_46 : decode cX5_changed 46 = .ok (.invokevirtual 185, 3) := dk_182 0 185 (dk_at dksX5_changed_2 0 rfl rfl)
theorem dX5_changed_49 : decode cX5_changed 49 = .ok (.iload_n 3, 1) := dk_29 (dk_at dksX5_changed_2 3 rfl rfl)
theorem dX5_changed_50 : decode cX5_changed 50 = .ok (.ireturn, 1) := dk_172 (dk_at dksX5_changed_2 4 rfl rfl)
abbrev cX5_longestOfPicks : ByteArray := prog_15_method_68_code
def yX5_longestOfPicks : MethodName := ⟨RX5, "longestOfPicks", "()I"⟩
def dkwX5_longestOfPicks_3 : List UInt8 := [132, 2, 1, 167, 255, 186, 27, 172]
abbrev dktX5_longestOfPicks_3 : List UInt8 := dkwX5_longestOfPicks_3 ++ []
def dkwX5_longestOfPicks_2 : List UInt8 := [21, 4, 27, 164, 0, 8, 21, 4, 167, 0, 4, 27, 60, 29, 27, 164, 0, 7, 29, 167, 0, 4, 27, 60]
abbrev dktX5_longestOfPicks_2 : List UInt8 := dkwX5_longestOfPicks_2 ++ dktX5_longestOfPicks_3
def dkwX5_longestOfPicks_1 : List UInt8 := [46, 4, 184, 0, 138, 62, 42, 28, 182, 0, 145, 42, 180, 0, 7, 3, 46, 3, 184, 0, 138, 54, 4]
abbrev dktX5_longestOfPicks_1 : List UInt8 := dkwX5_longestOfPicks_1 ++ dktX5_longestOfPicks_2
def dkwX5_longestOfPicks_0 : List UInt8 := [3, 60, 3, 61, 28, 42, 180, 0, 7, 4, 46, 162, 0, 66, 42, 28, 182, 0, 145, 42, 180, 0, 7, 3]
abbrev dktX5_longestOfPicks_0 : List UInt8 := dkwX5_longestOfPicks_0 ++ dktX5_longestOfPicks_1
theorem dksX5_longestOfPicks_0 : cX5_longestOfPicks.data.toList.drop 0 = dktX5_longestOfPicks_0 := by decide +kernel
theorem dksX5_longestOfPicks_1 : cX5_longestOfPicks.data.toList.drop 24 = dktX5_longestOfPicks_1 := dk_seg dksX5_longestOfPicks_0 24 rfl rfl
theorem dksX5_longestOfPicks_2 : cX5_longestOfPicks.data.toList.drop 47 = dktX5_longestOfPicks_2 := dk_seg dksX5_longestOfPicks_1 23 rfl rfl
theorem dksX5_longestOfPicks_3 : cX5_longestOfPicks.data.toList.drop 71 = dktX5_longestOfPicks_3 := dk_seg dksX5_longestOfPicks_2 24 rfl rfl
theorem dX5_longestOfPicks_0 : decode cX5_longestOfPicks 0 = .ok (.iconst 0, 1) := dk_3 (dk_at dksX5_longestOfPicks_0 0 rfl rfl)
theorem dX5_longestOfPicks_1 : decode cX5_longestOfPicks 1 = .ok (.istore_n 1, 1) := dk_60 (dk_at dksX5_longestOfPicks_0 1 rfl rfl)
theorem dX5_longestOfPicks_2 : decode cX5_longestOfPicks 2 = .ok (.iconst 0, 1) := dk_3 (dk_at dksX5_longestOfPicks_0 2 rfl rfl)
theorem dX5_longestOfPicks_3 : decode cX5_longestOfPicks 3 = .ok (.istore_n 2, 1) := dk_61 (dk_at dksX5_longestOfPicks_0 3 rfl rfl)
theorem dX5_longestOfPicks_4 : decode cX5_longestOfPicks 4 = .ok (.iload_n 2, 1) := dk_28 (dk_at dksX5_longestOfPicks_0 4 rfl rfl)
theorem dX5_longestOfPicks_5 : decode cX5_longestOfPicks 5 = .ok (.aload_n 0, 1) := dk_42 (dk_at dksX5_longestOfPicks_0 5 rfl rfl)
theorem dX5_longestOfPicks_6 : decode cX5_longestOfPicks 6 = .ok (.getfield 7, 3) := dk_180 0 7 (dk_at dksX5_longestOfPicks_0 6 rfl rfl)
theorem dX5_longestOfPicks_9 : decode cX5_longestOfPicks 9 = .ok (.iconst 1, 1) := dk_4 (dk_at dksX5_longestOfPicks_0 9 rfl rfl)
theorem dX5_longestOfPicks_10 : decode cX5_longestOfPicks 10 = .ok (.iaload, 1) := dk_46 (dk_at dksX5_longestOfPicks_0 10 rfl rfl)
theorem dX5_longestOfPicks_11 : decode cX5_longestOfPicks 11 = .ok (.if_icmp .ge 66, 3) := dk_162 0 66 (dk_at dksX5_longestOfPicks_0 11 rfl rfl)
theorem dX5_longestOfPicks_14 : decode cX5_longestOfPicks 14 = .ok (.aload_n 0, 1) := dk_42 (dk_at dksX5_longestOfPicks_0 14 rfl rfl)
theorem dX5_longestOfPicks_15 : decode cX5_longestOfPicks 15 = .ok (.iload_n 2, 1) := dk_28 (dk_at dksX5_longestOfPicks_0 15 rfl rfl)
theorem dX5_longestOfPicks_16 : decode cX5_longestOfPicks 16 = .ok (.invokevirtual 145, 3) := dk_182 0 145 (dk_at dksX5_longestOfPicks_0 16 rfl rfl)
theorem dX5_longestOfPicks_19 : decode cX5_longestOfPicks 19 = .ok (.aload_n 0, 1) := dk_42 (dk_at dksX5_longestOfPicks_0 19 rfl rfl)
theorem dX5_longestOfPicks_20 : decode cX5_longestOfPicks 20 = .ok (.getfield 7, 3) := dk_180 0 7 (dk_at dksX5_longestOfPicks_0 20 rfl rfl)
theorem dX5_longestOfPicks_23 : decode cX5_longestOfPicks 23 = .ok (.iconst 0, 1) := dk_3 (dk_at dksX5_longestOfPicks_0 23 rfl rfl)
theorem dX5_longestOfPicks_24 : decode cX5_longestOfPicks 24 = .ok (.iaload, 1) := dk_46 (dk_at dksX5_longestOfPicks_1 0 rfl rfl)
theorem dX5_longestOfPicks_25 : decode cX5_longestOfPicks 25 = .ok (.iconst 1, 1) := dk_4 (dk_at dksX5_longestOfPicks_1 1 rfl rfl)
theorem dX5_longestOfPicks_26 : decode cX5_longestOfPicks 26 = .ok (.invokestatic 138, 3) := dk_184 0 138 (dk_at dksX5_longestOfPicks_1 2 rfl rfl)
theorem dX5_longestOfPicks_29 : decode cX5_longestOfPicks 29 = .ok (.istore_n 3, 1) := dk_62 (dk_at dksX5_longestOfPicks_1 5 rfl rfl)
theorem dX5_longestOfPicks_30 : decode cX5_longestOfPicks 30 = .ok (.aload_n 0, 1) := dk_42 (dk_at dksX5_longestOfPicks_1 6 rfl rfl)
theorem dX5_longestOfPicks_31 : decode cX5_longestOfPicks 31 = .ok (.iload_n 2, 1) := dk_28 (dk_at dksX5_longestOfPicks_1 7 rfl rfl)
theorem dX5_longestOfPicks_32 : decode cX5_longestOfPicks 32 = .ok (.invokevirtual 145, 3) := dk_182 0 145 (dk_at dksX5_longestOfPicks_1 8 rfl rfl)
theorem dX5_longestOfPicks_35 : decode cX5_longestOfPicks 35 = .ok (.aload_n 0, 1) := dk_42 (dk_at dksX5_longestOfPicks_1 11 rfl rfl)
theorem dX5_longestOfPicks_36 : decode cX5_longestOfPicks 36 = .ok (.getfield 7, 3) := dk_180 0 7 (dk_at dksX5_longestOfPicks_1 12 rfl rfl)
theorem dX5_longestOfPicks_39 : decode cX5_longestOfPicks 39 = .ok (.iconst 0, 1) := dk_3 (dk_at dksX5_longestOfPicks_1 15 rfl rfl)
theorem dX5_longestOfPicks_40 : decode cX5_longestOfPicks 40 = .ok (.iaload, 1) := dk_46 (dk_at dksX5_longestOfPicks_1 16 rfl rfl)
theorem dX5_longestOfPicks_41 : decode cX5_longestOfPicks 41 = .ok (.iconst 0, 1) := dk_3 (dk_at dksX5_longestOfPicks_1 17 rfl rfl)
theorem dX5_longestOfPicks_42 : decode cX5_longestOfPicks 42 = .ok (.invokestatic 138, 3) := dk_184 0 138 (dk_at dksX5_longestOfPicks_1 18 rfl rfl)
theorem dX5_longestOfPicks_45 : decode cX5_longestOfPicks 45 = .ok (.istore 4, 2) := dk_54 4 (dk_at dksX5_longestOfPicks_1 21 rfl rfl)
theorem dX5_longestOfPicks_47 : decode cX5_longestOfPicks 47 = .ok (.iload 4, 2) := dk_21 4 (dk_at dksX5_longestOfPicks_2 0 rfl rfl)
theorem dX5_longestOfPicks_49 : decode cX5_longestOfPicks 49 = .ok (.iload_n 1, 1) := dk_27 (dk_at dksX5_longestOfPicks_2 2 rfl rfl)
theorem dX5_longestOfPicks_50 : decode cX5_longestOfPicks 50 = .ok (.if_icmp .le 8, 3) := dk_164 0 8 (dk_at dksX5_longestOfPicks_2 3 rfl rfl)
theorem dX5_longestOfPicks_53 : decode cX5_longestOfPicks 53 = .ok (.iload 4, 2) := dk_21 4 (dk_at dksX5_longestOfPicks_2 6 rfl rfl)
theorem dX5_longestOfPicks_55 : decode cX5_longestOfPicks 55 = .ok (.goto 4, 3) := dk_167 0 4 (dk_at dksX5_longestOfPicks_2 8 rfl rfl)
theorem dX5_longestOfPicks_58 : decode cX5_longestOfPicks 58 = .ok (.iload_n 1, 1) := dk_27 (dk_at dksX5_longestOfPicks_2 11 rfl rfl)
theorem dX5_longestOfPicks_59 : decode cX5_longestOfPicks 59 = .ok (.istore_n 1, 1) := dk_60 (dk_at dksX5_longestOfPicks_2 12 rfl rfl)
theorem dX5_longestOfPicks_60 : decode cX5_longestOfPicks 60 = .ok (.iload_n 3, 1) := dk_29 (dk_at dksX5_longestOfPicks_2 13 rfl rfl)
theorem dX5_longestOfPicks_61 : decode cX5_longestOfPicks 61 = .ok (.iload_n 1, 1) := dk_27 (dk_at dksX5_longestOfPicks_2 14 rfl rfl)
theorem dX5_longestOfPicks_62 : decode cX5_longestOfPicks 62 = .ok (.if_icmp .le 7, 3) := dk_164 0 7 (dk_at dksX5_longestOfPicks_2 15 rfl rfl)
theorem dX5_longestOfPicks_65 : decode cX5_longestOfPicks 65 = .ok (.iload_n 3, 1) := dk_29 (dk_at dksX5_longestOfPicks_2 18 rfl rfl)
theorem dX5_longestOfPicks_66 : decode cX5_longestOfPicks 66 = .ok (.goto 4, 3) := dk_167 0 4 (dk_at dksX5_longestOfPicks_2 19 rfl rfl)
theorem dX5_longestOfPicks_69 : decode cX5_longestOfPicks 69 = .ok (.iload_n 1, 1) := dk_27 (dk_at dksX5_longestOfPicks_2 22 rfl rfl)
theorem dX5_longestOfPicks_70 : decode cX5_longestOfPicks 70 = .ok (.istore_n 1, 1) := dk_60 (dk_at dksX5_longestOfPicks_2 23 rfl rfl)
theorem dX5_longestOfPicks_71 : decode cX5_longestOfPicks 71 = .ok (.iinc 2 1, 3) := dk_132 2 1 (dk_at dksX5_longestOfPicks_3 0 rfl rfl)
theorem dX5_longestOfPicks_74 : decode cX5_longestOfPicks 74 = .ok (.goto (-70), 3) := dk_167 255 186 (dk_at dksX5_longestOfPicks_3 3 rfl rfl)
theorem dX5_longestOfPicks_77 : decode cX5_longestOfPicks 77 = .ok (.iload_n 1, 1) := dk_27 (dk_at dksX5_longestOfPicks_3 6 rfl rfl)
theorem dX5_longestOfPicks_78 : decode cX5_longestOfPicks 78 = .ok (.ireturn, 1) := dk_172 (dk_at dksX5_longestOfPicks_3 7 rfl rfl)
abbrev cX5_spool : ByteArray := prog_15_method_60_code
def yX5_spool : MethodName := ⟨RX5, "spool", "(I)I"⟩
def dkwX5_spool_0 : List UInt8 := [27, 184, 0, 201, 154, 0, 6, 16, 254, 172, 42, 180, 0, 23, 27, 3, 79, 3, 172]
abbrev dktX5_spool_0 : List UInt8 := dkwX5_spool_0 ++ []
theorem dksX5_spool_0 : cX5_spool.data.toList.drop 0 = dktX5_spool_0 := by decide +kernel
theorem dX5_spool_0 : decode cX5_spool 0 = .ok (.iload_n 1, 1) := dk_27 (dk_at dksX5_spool_0 0 rfl rfl)
theorem dX5_spool_1 : decode cX5_spool 1 = .ok (.invokestatic 201, 3) := dk_184 0 201 (dk_at dksX5_spool_0 1 rfl rfl)
theorem dX5_spool_4 : decode cX5_spool 4 = .ok (.ifCond .ne 6, 3) := dk_154 0 6 (dk_at dksX5_spool_0 4 rfl rfl)
theorem dX5_spool_7 : decode cX5_spool 7 = .ok (.bipush (-2), 2) := dk_16 254 (dk_at dksX5_spool_0 7 rfl rfl)
theorem dX5_spool_9 : decode cX5_spool 9 = .ok (.ireturn, 1) := dk_172 (dk_at dksX5_spool_0 9 rfl rfl)
theorem dX5_spool_10 : decode cX5_spool 10 = .ok (.aload_n 0, 1) := dk_42 (dk_at dksX5_spool_0 10 rfl rfl)
theorem dX5_spool_11 : decode cX5_spool 11 = .ok (.getfield 23, 3) := dk_180 0 23 (dk_at dksX5_spool_0 11 rfl rfl)
theorem dX5_spool_14 : decode cX5_spool 14 = .ok (.iload_n 1, 1) := dk_27 (dk_at dksX5_spool_0 14 rfl rfl)
theorem dX5_spool_15 : decode cX5_spool 15 = .ok (.iconst 0, 1) := dk_3 (dk_at dksX5_spool_0 15 rfl rfl)
theorem dX5_spool_16 : decode cX5_spool 16 = .ok (.iastore, 1) := dk_79 (dk_at dksX5_spool_0 16 rfl rfl)
theorem dX5_spool_17 : decode cX5_spool 17 = .ok (.iconst 0, 1) := dk_3 (dk_at dksX5_spool_0 17 rfl rfl)
theorem dX5_spool_18 : decode cX5_spool 18 = .ok (.ireturn, 1) := dk_172 (dk_at dksX5_spool_0 18 rfl rfl)
abbrev cX5_isSpool : ByteArray := prog_15_method_59_code
def yX5_isSpool : MethodName := ⟨RX5, "isSpool", "(I)Z"⟩
def dkwX5_isSpool_0 : List UInt8 := [26, 133, 9, 20, 0, 199, 184, 0, 47, 172]
abbrev dktX5_isSpool_0 : List UInt8 := dkwX5_isSpool_0 ++ []
theorem dksX5_isSpool_0 : cX5_isSpool.data.toList.drop 0 = dktX5_isSpool_0 := by decide +kernel
theorem dX5_isSpool_0 : decode cX5_isSpool 0 = .ok (.iload_n 0, 1) := dk_26 (dk_at dksX5_isSpool_0 0 rfl rfl)
theorem dX5_isSpool_1 : decode cX5_isSpool 1 = .ok (.i2l, 1) := dk_133 (dk_at dksX5_isSpool_0 1 rfl rfl)
theorem dX5_isSpool_2 : decode cX5_isSpool 2 = .ok (.lconst 0, 1) := dk_9 (dk_at dksX5_isSpool_0 2 rfl rfl)
theorem dX5_isSpool_3 : decode cX5_isSpool 3 = .ok (.ldc2_w 199, 3) := dk_20 0 199 (dk_at dksX5_isSpool_0 3 rfl rfl)
theorem dX5_isSpool_6 : decode cX5_isSpool 6 = .ok (.invokestatic 47, 3) := dk_184 0 47 (dk_at dksX5_isSpool_0 6 rfl rfl)
theorem dX5_isSpool_9 : decode cX5_isSpool 9 = .ok (.ireturn, 1) := dk_172 (dk_at dksX5_isSpool_0 9 rfl rfl)
abbrev cX5_wind : ByteArray := prog_15_method_61_code
def yX5_wind : MethodName := ⟨RX5, "wind", "(II)I"⟩
def dkwX5_wind_3 : List UInt8 := [27, 92, 46, 4, 96, 79, 42, 180, 0, 23, 27, 46, 172]
abbrev dktX5_wind_3 : List UInt8 := dkwX5_wind_3 ++ []
def dkwX5_wind_2 : List UInt8 := [16, 243, 172, 42, 180, 0, 26, 16, 8, 27, 104, 42, 180, 0, 23, 27, 46, 96, 28, 79, 42, 180, 0, 23]
abbrev dktX5_wind_2 : List UInt8 := dkwX5_wind_2 ++ dktX5_wind_3
def dkwX5_wind_1 : List UInt8 := [172, 42, 180, 0, 23, 27, 46, 156, 0, 6, 16, 245, 172, 42, 180, 0, 23, 27, 46, 16, 8, 160, 0, 6]
abbrev dktX5_wind_1 : List UInt8 := dkwX5_wind_1 ++ dktX5_wind_2
def dkwX5_wind_0 : List UInt8 := [27, 184, 0, 201, 154, 0, 6, 16, 254, 172, 28, 133, 10, 20, 0, 204, 184, 0, 47, 154, 0, 6, 16, 253]
abbrev dktX5_wind_0 : List UInt8 := dkwX5_wind_0 ++ dktX5_wind_1
theorem dksX5_wind_0 : cX5_wind.data.toList.drop 0 = dktX5_wind_0 := by decide +kernel
theorem dksX5_wind_1 : cX5_wind.data.toList.drop 24 = dktX5_wind_1 := dk_seg dksX5_wind_0 24 rfl rfl
theorem dksX5_wind_2 : cX5_wind.data.toList.drop 48 = dktX5_wind_2 := dk_seg dksX5_wind_1 24 rfl rfl
theorem dksX5_wind_3 : cX5_wind.data.toList.drop 72 = dktX5_wind_3 := dk_seg dksX5_wind_2 24 rfl rfl
theorem dX5_wind_0 : decode cX5_wind 0 = .ok (.iload_n 1, 1) := dk_27 (dk_at dksX5_wind_0 0 rfl rfl)
theorem dX5_wind_1 : decode cX5_wind 1 = .ok (.invokestatic 201, 3) := dk_184 0 201 (dk_at dksX5_wind_0 1 rfl rfl)
theorem dX5_wind_4 : decode cX5_wind 4 = .ok (.ifCond .ne 6, 3) := dk_154 0 6 (dk_at dksX5_wind_0 4 rfl rfl)
theorem dX5_wind_7 : decode cX5_wind 7 = .ok (.bipush (-2), 2) := dk_16 254 (dk_at dksX5_wind_0 7 rfl rfl)
theorem dX5_wind_9 : decode cX5_wind 9 = .ok (.ireturn, 1) := dk_172 (dk_at dksX5_wind_0 9 rfl rfl)
theorem dX5_wind_10 : decode cX5_wind 10 = .ok (.iload_n 2, 1) := dk_28 (dk_at dksX5_wind_0 10 rfl rfl)
theorem dX5_wind_11 : decode cX5_wind 11 = .ok (.i2l, 1) := dk_133 (dk_at dksX5_wind_0 11 rfl rfl)
theorem dX5_wind_12 : decode cX5_wind 12 = .ok (.lconst 1, 1) := dk_10 (dk_at dksX5_wind_0 12 rfl rfl)
theorem dX5_wind_13 : decode cX5_wind 13 = .ok (.ldc2_w 204, 3) := dk_20 0 204 (dk_at dksX5_wind_0 13 rfl rfl)
theorem dX5_wind_16 : decode cX5_wind 16 = .ok (.invokestatic 47, 3) := dk_184 0 47 (dk_at dksX5_wind_0 16 rfl rfl)
theorem dX5_wind_19 : decode cX5_wind 19 = .ok (.ifCond .ne 6, 3) := dk_154 0 6 (dk_at dksX5_wind_0 19 rfl rfl)
theorem dX5_wind_22 : decode cX5_wind 22 = .ok (.bipush (-3), 2) := dk_16 253 (dk_at dksX5_wind_0 22 rfl rfl)
theorem dX5_wind_24 : decode cX5_wind 24 = .ok (.ireturn, 1) := dk_172 (dk_at dksX5_wind_1 0 rfl rfl)
theorem dX5_wind_25 : decode cX5_wind 25 = .ok (.aload_n 0, 1) := dk_42 (dk_at dksX5_wind_1 1 rfl rfl)
theorem dX5_wind_26 : decode cX5_wind 26 = .ok (.getfield 23, 3) := dk_180 0 23 (dk_at dksX5_wind_1 2 rfl rfl)
theorem dX5_wind_29 : decode cX5_wind 29 = .ok (.iload_n 1, 1) := dk_27 (dk_at dksX5_wind_1 5 rfl rfl)
theorem dX5_wind_30 : decode cX5_wind 30 = .ok (.iaload, 1) := dk_46 (dk_at dksX5_wind_1 6 rfl rfl)
theorem dX5_wind_31 : decode cX5_wind 31 = .ok (.ifCond .ge 6, 3) := dk_156 0 6 (dk_at dksX5_wind_1 7 rfl rfl)
theorem dX5_wind_34 : decode cX5_wind 34 = .ok (.bipush (-11), 2) := dk_16 245 (dk_at dksX5_wind_1 10 rfl rfl)
theorem dX5_wind_36 : decode cX5_wind 36 = .ok (.ireturn, 1) := dk_172 (dk_at dksX5_wind_1 12 rfl rfl)
theorem dX5_wind_37 : decode cX5_wind 37 = .ok (.aload_n 0, 1) := dk_42 (dk_at dksX5_wind_1 13 rfl rfl)
theorem dX5_wind_38 : decode cX5_wind 38 = .ok (.getfield 23, 3) := dk_180 0 23 (dk_at dksX5_wind_1 14 rfl rfl)
theorem dX5_wind_41 : decode cX5_wind 41 = .ok (.iload_n 1, 1) := dk_27 (dk_at dksX5_wind_1 17 rfl rfl)
theorem dX5_wind_42 : decode cX5_wind 42 = .ok (.iaload, 1) := dk_46 (dk_at dksX5_wind_1 18 rfl rfl)
theorem dX5_wind_43 : decode cX5_wind 43 = .ok (.bipush 8, 2) := dk_16 8 (dk_at dksX5_wind_1 19 rfl rfl)
theorem dX5_wind_45 : decode cX5_wind 45 = .ok (.if_icmp .ne 6, 3) := dk_160 0 6 (dk_at dksX5_wind_1 21 rfl rfl)
theorem dX5_wind_48 : decode cX5_wind 48 = .ok (.bipush (-13), 2) := dk_16 243 (dk_at dksX5_wind_2 0 rfl rfl)
theorem dX5_wind_50 : decode cX5_wind 50 = .ok (.ireturn, 1) := dk_172 (dk_at dksX5_wind_2 2 rfl rfl)
theorem dX5_wind_51 : decode cX5_wind 51 = .ok (.aload_n 0, 1) := dk_42 (dk_at dksX5_wind_2 3 rfl rfl)
theorem dX5_wind_52 : decode cX5_wind 52 = .ok (.getfield 26, 3) := dk_180 0 26 (dk_at dksX5_wind_2 4 rfl rfl)
theorem dX5_wind_55 : decode cX5_wind 55 = .ok (.bipush 8, 2) := dk_16 8 (dk_at dksX5_wind_2 7 rfl rfl)
theorem dX5_wind_57 : decode cX5_wind 57 = .ok (.iload_n 1, 1) := dk_27 (dk_at dksX5_wind_2 9 rfl rfl)
theorem dX5_wind_58 : decode cX5_wind 58 = .ok (.imul, 1) := dk_104 (dk_at dksX5_wind_2 10 rfl rfl)
theorem dX5_wind_59 : decode cX5_wind 59 = .ok (.aload_n 0, 1) := dk_42 (dk_at dksX5_wind_2 11 rfl rfl)
theorem dX5_wind_60 : decode cX5_wind 60 = .ok (.getfield 23, 3) := dk_180 0 23 (dk_at dksX5_wind_2 12 rfl rfl)
theorem dX5_wind_63 : decode cX5_wind 63 = .ok (.iload_n 1, 1) := dk_27 (dk_at dksX5_wind_2 15 rfl rfl)
theorem dX5_wind_64 : decode cX5_wind 64 = .ok (.iaload, 1) := dk_46 (dk_at dksX5_wind_2 16 rfl rfl)
theorem dX5_wind_65 : decode cX5_wind 65 = .ok (.iadd, 1) := dk_96 (dk_at dksX5_wind_2 17 rfl rfl)
theorem dX5_wind_66 : decode cX5_wind 66 = .ok (.iload_n 2, 1) := dk_28 (dk_at dksX5_wind_2 18 rfl rfl)
theorem dX5_wind_67 : decode cX5_wind 67 = .ok (.iastore, 1) := dk_79 (dk_at dksX5_wind_2 19 rfl rfl)
theorem dX5_wind_68 : decode cX5_wind 68 = .ok (.aload_n 0, 1) := dk_42 (dk_at dksX5_wind_2 20 rfl rfl)
theorem dX5_wind_69 : decode cX5_wind 69 = .ok (.getfield 23, 3) := dk_180 0 23 (dk_at dksX5_wind_2 21 rfl rfl)
theorem dX5_wind_72 : decode cX5_wind 72 = .ok (.iload_n 1, 1) := dk_27 (dk_at dksX5_wind_3 0 rfl rfl)
theorem dX5_wind_73 : decode cX5_wind 73 = .ok (.dup2, 1) := dk_92 (dk_at dksX5_wind_3 1 rfl rfl)
theorem dX5_wind_74 : decode cX5_wind 74 = .ok (.iaload, 1) := dk_46 (dk_at dksX5_wind_3 2 rfl rfl)
theorem dX5_wind_75 : decode cX5_wind 75 = .ok (.iconst 1, 1) := dk_4 (dk_at dksX5_wind_3 3 rfl rfl)
theorem dX5_wind_76 : decode cX5_wind 76 = .ok (.iadd, 1) := dk_96 (dk_at dksX5_wind_3 4 rfl rfl)
theorem dX5_wind_77 : decode cX5_wind 77 = .ok (.iastore, 1) := dk_79 (dk_at dksX5_wind_3 5 rfl rfl)
theorem dX5_wind_78 : decode cX5_wind 78 = .ok (.aload_n 0, 1) := dk_42 (dk_at dksX5_wind_3 6 rfl rfl)
theorem dX5_wind_79 : decode cX5_wind 79 = .ok (.getfield 23, 3) := dk_180 0 23 (dk_at dksX5_wind_3 7 rfl rfl)
theorem dX5_wind_82 : decode cX5_wind 82 = .ok (.iload_n 1, 1) := dk_27 (dk_at dksX5_wind_3 10 rfl rfl)
theorem dX5_wind_83 : decode cX5_wind 83 = .ok (.iaload, 1) := dk_46 (dk_at dksX5_wind_3 11 rfl rfl)
theorem dX5_wind_84 : decode cX5_wind 84 = .ok (.ireturn, 1) := dk_172 (dk_at dksX5_wind_3 12 rfl rfl)
abbrev cX5_pull : ByteArray := prog_15_method_63_code
def yX5_pull : MethodName := ⟨RX5, "pull", "(II)I"⟩
def dkwX5_pull_5 : List UInt8 := [167, 255, 190, 42, 180, 0, 23, 27, 46, 172]
abbrev dktX5_pull_5 : List UInt8 := dkwX5_pull_5 ++ []
def dkwX5_pull_4 : List UInt8 := [27, 92, 46, 4, 100, 79, 167, 0, 16, 42, 180, 0, 26, 21, 4, 92, 46, 29, 100, 79, 3, 62]
abbrev dktX5_pull_4 : List UInt8 := dkwX5_pull_4 ++ dktX5_pull_5
def dkwX5_pull_3 : List UInt8 := [180, 0, 26, 21, 4, 46, 29, 163, 0, 26, 29, 42, 180, 0, 26, 21, 4, 46, 100, 62, 42, 180, 0, 23]
abbrev dktX5_pull_3 : List UInt8 := dkwX5_pull_3 ++ dktX5_pull_4
def dkwX5_pull_2 : List UInt8 := [172, 28, 62, 29, 158, 0, 68, 16, 8, 27, 104, 42, 180, 0, 23, 27, 46, 96, 4, 100, 54, 4, 42]
abbrev dktX5_pull_2 : List UInt8 := dkwX5_pull_2 ++ dktX5_pull_3
def dkwX5_pull_1 : List UInt8 := [172, 42, 180, 0, 23, 27, 46, 156, 0, 6, 16, 245, 172, 42, 27, 182, 0, 208, 28, 162, 0, 6, 16, 242]
abbrev dktX5_pull_1 : List UInt8 := dkwX5_pull_1 ++ dktX5_pull_2
def dkwX5_pull_0 : List UInt8 := [27, 184, 0, 201, 154, 0, 6, 16, 254, 172, 28, 133, 10, 20, 0, 206, 184, 0, 47, 154, 0, 6, 16, 253]
abbrev dktX5_pull_0 : List UInt8 := dkwX5_pull_0 ++ dktX5_pull_1
theorem dksX5_pull_0 : cX5_pull.data.toList.drop 0 = dktX5_pull_0 := by decide +kernel
theorem dksX5_pull_1 : cX5_pull.data.toList.drop 24 = dktX5_pull_1 := dk_seg dksX5_pull_0 24 rfl rfl
theorem dksX5_pull_2 : cX5_pull.data.toList.drop 48 = dktX5_pull_2 := dk_seg dksX5_pull_1 24 rfl rfl
theorem dksX5_pull_3 : cX5_pull.data.toList.drop 71 = dktX5_pull_3 := dk_seg dksX5_pull_2 23 rfl rfl
theorem dksX5_pull_4 : cX5_pull.data.toList.drop 95 = dktX5_pull_4 := dk_seg dksX5_pull_3 24 rfl rfl
theorem dksX5_pull_5 : cX5_pull.data.toList.drop 117 = dktX5_pull_5 := dk_seg dksX5_pull_4 22 rfl rfl
theorem dX5_pull_0 : decode cX5_pull 0 = .ok (.iload_n 1, 1) := dk_27 (dk_at dksX5_pull_0 0 rfl rfl)
theorem dX5_pull_1 : decode cX5_pull 1 = .ok (.invokestatic 201, 3) := dk_184 0 201 (dk_at dksX5_pull_0 1 rfl rfl)
theorem dX5_pull_4 : decode cX5_pull 4 = .ok (.ifCond .ne 6, 3) := dk_154 0 6 (dk_at dksX5_pull_0 4 rfl rfl)
theorem dX5_pull_7 : decode cX5_pull 7 = .ok (.bipush (-2), 2) := dk_16 254 (dk_at dksX5_pull_0 7 rfl rfl)
theorem dX5_pull_9 : decode cX5_pull 9 = .ok (.ireturn, 1) := dk_172 (dk_at dksX5_pull_0 9 rfl rfl)
theorem dX5_pull_10 : decode cX5_pull 10 = .ok (.iload_n 2, 1) := dk_28 (dk_at dksX5_pull_0 10 rfl rfl)
theorem dX5_pull_11 : decode cX5_pull 11 = .ok (.i2l, 1) := dk_133 (dk_at dksX5_pull_0 11 rfl rfl)
theorem dX5_pull_12 : decode cX5_pull 12 = .ok (.lconst 1, 1) := dk_10 (dk_at dksX5_pull_0 12 rfl rfl)
theorem dX5_pull_13 : decode cX5_pull 13 = .ok (.ldc2_w 206, 3) := dk_20 0 206 (dk_at dksX5_pull_0 13 rfl rfl)
theorem dX5_pull_16 : decode cX5_pull 16 = .ok (.invokestatic 47, 3) := dk_184 0 47 (dk_at dksX5_pull_0 16 rfl rfl)
theorem dX5_pull_19 : decode cX5_pull 19 = .ok (.ifCond .ne 6, 3) := dk_154 0 6 (dk_at dksX5_pull_0 19 rfl rfl)
theorem dX5_pull_22 : decode cX5_pull 22 = .ok (.bipush (-3), 2) := dk_16 253 (dk_at dksX5_pull_0 22 rfl rfl)
theorem dX5_pull_24 : decode cX5_pull 24 = .ok (.ireturn, 1) := dk_172 (dk_at dksX5_pull_1 0 rfl rfl)
theorem dX5_pull_25 : decode cX5_pull 25 = .ok (.aload_n 0, 1) := dk_42 (dk_at dksX5_pull_1 1 rfl rfl)
theorem dX5_pull_26 : decode cX5_pull 26 = .ok (.getfield 23, 3) := dk_180 0 23 (dk_at dksX5_pull_1 2 rfl rfl)
theorem dX5_pull_29 : decode cX5_pull 29 = .ok (.iload_n 1, 1) := dk_27 (dk_at dksX5_pull_1 5 rfl rfl)
theorem dX5_pull_30 : decode cX5_pull 30 = .ok (.iaload, 1) := dk_46 (dk_at dksX5_pull_1 6 rfl rfl)
theorem dX5_pull_31 : decode cX5_pull 31 = .ok (.ifCond .ge 6, 3) := dk_156 0 6 (dk_at dksX5_pull_1 7 rfl rfl)
theorem dX5_pull_34 : decode cX5_pull 34 = .ok (.bipush (-11), 2) := dk_16 245 (dk_at dksX5_pull_1 10 rfl rfl)
theorem dX5_pull_36 : decode cX5_pull 36 = .ok (.ireturn, 1) := dk_172 (dk_at dksX5_pull_1 12 rfl rfl)
theorem dX5_pull_37 : decode cX5_pull 37 = .ok (.aload_n 0, 1) := dk_42 (dk_at dksX5_pull_1 13 rfl rfl)
theorem dX5_pull_38 : decode cX5_pull 38 = .ok (.iload_n 1, 1) := dk_27 (dk_at dksX5_pull_1 14 rfl rfl)
theorem dX5_pull_39 : decode cX5_pull 39 = .ok (.invokevirtual 208, 3) := dk_182 0 208 (dk_at dksX5_pull_1 15 rfl rfl)
theorem dX5_pull_42 : decode cX5_pull 42 = .ok (.iload_n 2, 1) := dk_28 (dk_at dksX5_pull_1 18 rfl rfl)
theorem dX5_pull_43 : decode cX5_pull 43 = .ok (.if_icmp .ge 6, 3) := dk_162 0 6 (dk_at dksX5_pull_1 19 rfl rfl)
theorem dX5_pull_46 : decode cX5_pull 46 = .ok (.bipush (-14), 2) := dk_16 242 (dk_at dksX5_pull_1 22 rfl rfl)
theorem dX5_pull_48 : decode cX5_pull 48 = .ok (.ireturn, 1) := dk_172 (dk_at dksX5_pull_2 0 rfl rfl)
theorem dX5_pull_49 : decode cX5_pull 49 = .ok (.iload_n 2, 1) := dk_28 (dk_at dksX5_pull_2 1 rfl rfl)
theorem dX5_pull_50 : decode cX5_pull 50 = .ok (.istore_n 3, 1) := dk_62 (dk_at dksX5_pull_2 2 rfl rfl)
theorem dX5_pull_51 : decode cX5_pull 51 = .ok (.iload_n 3, 1) := dk_29 (dk_at dksX5_pull_2 3 rfl rfl)
theorem dX5_pull_52 : decode cX5_pull 52 = .ok (.ifCond .le 68, 3) := dk_158 0 68 (dk_at dksX5_pull_2 4 rfl rfl)
theorem dX5_pull_55 : decode cX5_pull 55 = .ok (.bipush 8, 2) := dk_16 8 (dk_at dksX5_pull_2 7 rfl rfl)
theorem dX5_pull_57 : decode cX5_pull 57 = .ok (.iload_n 1, 1) := dk_27 (dk_at dksX5_pull_2 9 rfl rfl)
theorem dX5_pull_58 : decode cX5_pull 58 = .ok (.imul, 1) := dk_104 (dk_at dksX5_pull_2 10 rfl rfl)
theorem dX5_pull_59 : decode cX5_pull 59 = .ok (.aload_n 0, 1) := dk_42 (dk_at dksX5_pull_2 11 rfl rfl)
theorem dX5_pull_60 : decode cX5_pull 60 = .ok (.getfield 23, 3) := dk_180 0 23 (dk_at dksX5_pull_2 12 rfl rfl)
theorem dX5_pull_63 : decode cX5_pull 63 = .ok (.iload_n 1, 1) := dk_27 (dk_at dksX5_pull_2 15 rfl rfl)
theorem dX5_pull_64 : decode cX5_pull 64 = .ok (.iaload, 1) := dk_46 (dk_at dksX5_pull_2 16 rfl rfl)
theorem dX5_pull_65 : decode cX5_pull 65 = .ok (.iadd, 1) := dk_96 (dk_at dksX5_pull_2 17 rfl rfl)
theorem dX5_pull_66 : decode cX5_pull 66 = .ok (.iconst 1, 1) := dk_4 (dk_at dksX5_pull_2 18 rfl rfl)
theorem dX5_pull_67 : decode cX5_pull 67 = .ok (.isub, 1) := dk_100 (dk_at dksX5_pull_2 19 rfl rfl)
theorem dX5_pull_68 : decode cX5_pull 68 = .ok (.istore 4, 2) := dk_54 4 (dk_at dksX5_pull_2 20 rfl rfl)
theorem dX5_pull_70 : decode cX5_pull 70 = .ok (.aload_n 0, 1) := dk_42 (dk_at dksX5_pull_2 22 rfl rfl)
theorem dX5_pull_71 : decode cX5_pull 71 = .ok (.getfield 26, 3) := dk_180 0 26 (dk_at dksX5_pull_3 0 rfl rfl)
theorem dX5_pull_74 : decode cX5_pull 74 = .ok (.iload 4, 2) := dk_21 4 (dk_at dksX5_pull_3 3 rfl rfl)
theorem dX5_pull_76 : decode cX5_pull 76 = .ok (.iaload, 1) := dk_46 (dk_at dksX5_pull_3 5 rfl rfl)
theorem dX5_pull_77 : decode cX5_pull 77 = .ok (.iload_n 3, 1) := dk_29 (dk_at dksX5_pull_3 6 rfl rfl)
theorem dX5_pull_78 : decode cX5_pull 78 = .ok (.if_icmp .gt 26, 3) := dk_163 0 26 (dk_at dksX5_pull_3 7 rfl rfl)
theorem dX5_pull_81 : decode cX5_pull 81 = .ok (.iload_n 3, 1) := dk_29 (dk_at dksX5_pull_3 10 rfl rfl)
theorem dX5_pull_82 : decode cX5_pull 82 = .ok (.aload_n 0, 1) := dk_42 (dk_at dksX5_pull_3 11 rfl rfl)
theorem dX5_pull_83 : decode cX5_pull 83 = .ok (.getfield 26, 3) := dk_180 0 26 (dk_at dksX5_pull_3 12 rfl rfl)
theorem dX5_pull_86 : decode cX5_pull 86 = .ok (.iload 4, 2) := dk_21 4 (dk_at dksX5_pull_3 15 rfl rfl)
theorem dX5_pull_88 : decode cX5_pull 88 = .ok (.iaload, 1) := dk_46 (dk_at dksX5_pull_3 17 rfl rfl)
theorem dX5_pull_89 : decode cX5_pull 89 = .ok (.isub, 1) := dk_100 (dk_at dksX5_pull_3 18 rfl rfl)
theorem dX5_pull_90 : decode cX5_pull 90 = .ok (.istore_n 3, 1) := dk_62 (dk_at dksX5_pull_3 19 rfl rfl)
theorem dX5_pull_91 : decode cX5_pull 91 = .ok (.aload_n 0, 1) := dk_42 (dk_at dksX5_pull_3 20 rfl rfl)
theorem dX5_pull_92 : decode cX5_pull 92 = .ok (.getfield 23, 3) := dk_180 0 23 (dk_at dksX5_pull_3 21 rfl rfl)
theorem dX5_pull_95 : decode cX5_pull 95 = .ok (.iload_n 1, 1) := dk_27 (dk_at dksX5_pull_4 0 rfl rfl)
theorem dX5_pull_96 : decode cX5_pull 96 = .ok (.dup2, 1) := dk_92 (dk_at dksX5_pull_4 1 rfl rfl)
theorem dX5_pull_97 : decode cX5_pull 97 = .ok (.iaload, 1) := dk_46 (dk_at dksX5_pull_4 2 rfl rfl)
theorem dX5_pull_98 : decode cX5_pull 98 = .ok (.iconst 1, 1) := dk_4 (dk_at dksX5_pull_4 3 rfl rfl)
theorem dX5_pull_99 : decode cX5_pull 99 = .ok (.isub, 1) := dk_100 (dk_at dksX5_pull_4 4 rfl rfl)
theorem dX5_pull_100 : decode cX5_pull 100 = .ok (.iastore, 1) := dk_79 (dk_at dksX5_pull_4 5 rfl rfl)
theorem dX5_pull_101 : decode cX5_pull 101 = .ok (.goto 16, 3) := dk_167 0 16 (dk_at dksX5_pull_4 6 rfl rfl)
theorem dX5_pull_104 : decode cX5_pull 104 = .ok (.aload_n 0, 1) := dk_42 (dk_at dksX5_pull_4 9 rfl rfl)
theorem dX5_pull_105 : decode cX5_pull 105 = .ok (.getfield 26, 3) := dk_180 0 26 (dk_at dksX5_pull_4 10 rfl rfl)
theorem dX5_pull_108 : decode cX5_pull 108 = .ok (.iload 4, 2) := dk_21 4 (dk_at dksX5_pull_4 13 rfl rfl)
theorem dX5_pull_110 : decode cX5_pull 110 = .ok (.dup2, 1) := dk_92 (dk_at dksX5_pull_4 15 rfl rfl)
theorem dX5_pull_111 : decode cX5_pull 111 = .ok (.iaload, 1) := dk_46 (dk_at dksX5_pull_4 16 rfl rfl)
theorem dX5_pull_112 : decode cX5_pull 112 = .ok (.iload_n 3, 1) := dk_29 (dk_at dksX5_pull_4 17 rfl rfl)
theorem dX5_pull_113 : decode cX5_pull 113 = .ok (.isub, 1) := dk_100 (dk_at dksX5_pull_4 18 rfl rfl)
theorem dX5_pull_114 : decode cX5_pull 114 = .ok (.iastore, 1) := dk_79 (dk_at dksX5_pull_4 19 rfl rfl)
theorem dX5_pull_115 : decode cX5_pull 115 = .ok (.iconst 0, 1) := dk_3 (dk_at dksX5_pull_4 20 rfl rfl)
theorem dX5_pull_116 : decode cX5_pull 116 = .ok (.istore_n 3, 1) := dk_62 (dk_at dksX5_pull_4 21 rfl rfl)
theorem dX5_pull_117 : decode cX5_pull 117 = .ok (.goto (-66), 3) := dk_167 255 190 (dk_at dksX5_pull_5 0 rfl rfl)
theorem dX5_pull_120 : decode cX5_pull 120 = .ok (.aload_n 0, 1) := dk_42 (dk_at dksX5_pull_5 3 rfl rfl)
theorem dX5_pull_121 : decode cX5_pull 121 = .ok (.getfield 23, 3) := dk_180 0 23 (dk_at dksX5_pull_5 4 rfl rfl)
theorem dX5_pull_124 : decode cX5_pull 124 = .ok (.iload_n 1, 1) := dk_27 (dk_at dksX5_pull_5 7 rfl rfl)
theorem dX5_pull_125 : decode cX5_pull 125 = .ok (.iaload, 1) := dk_46 (dk_at dksX5_pull_5 8 rfl rfl)
theorem dX5_pull_126 : decode cX5_pull 126 = .ok (.ireturn, 1) := dk_172 (dk_at dksX5_pull_5 9 rfl rfl)
abbrev cX5_all : ByteArray := prog_15_method_62_code
def yX5_all : MethodName := ⟨RX5, "all", "(I)I"⟩
def dkwX5_all_1 : List UInt8 := [96, 46, 96, 61, 132, 3, 1, 167, 255, 229, 28, 172]
abbrev dktX5_all_1 : List UInt8 := dkwX5_all_1 ++ []
def dkwX5_all_0 : List UInt8 := [3, 61, 3, 62, 29, 42, 180, 0, 23, 27, 46, 162, 0, 23, 28, 42, 180, 0, 26, 16, 8, 27, 104, 29]
abbrev dktX5_all_0 : List UInt8 := dkwX5_all_0 ++ dktX5_all_1
theorem dksX5_all_0 : cX5_all.data.toList.drop 0 = dktX5_all_0 := by decide +kernel
theorem dksX5_all_1 : cX5_all.data.toList.drop 24 = dktX5_all_1 := dk_seg dksX5_all_0 24 rfl rfl
theorem dX5_all_0 : decode cX5_all 0 = .ok (.iconst 0, 1) := dk_3 (dk_at dksX5_all_0 0 rfl rfl)
theorem dX5_all_1 : decode cX5_all 1 = .ok (.istore_n 2, 1) := dk_61 (dk_at dksX5_all_0 1 rfl rfl)
theorem dX5_all_2 : decode cX5_all 2 = .ok (.iconst 0, 1) := dk_3 (dk_at dksX5_all_0 2 rfl rfl)
theorem dX5_all_3 : decode cX5_all 3 = .ok (.istore_n 3, 1) := dk_62 (dk_at dksX5_all_0 3 rfl rfl)
theorem dX5_all_4 : decode cX5_all 4 = .ok (.iload_n 3, 1) := dk_29 (dk_at dksX5_all_0 4 rfl rfl)
theorem dX5_all_5 : decode cX5_all 5 = .ok (.aload_n 0, 1) := dk_42 (dk_at dksX5_all_0 5 rfl rfl)
theorem dX5_all_6 : decode cX5_all 6 = .ok (.getfield 23, 3) := dk_180 0 23 (dk_at dksX5_all_0 6 rfl rfl)
theorem dX5_all_9 : decode cX5_all 9 = .ok (.iload_n 1, 1) := dk_27 (dk_at dksX5_all_0 9 rfl rfl)
theorem dX5_all_10 : decode cX5_all 10 = .ok (.iaload, 1) := dk_46 (dk_at dksX5_all_0 10 rfl rfl)
theorem dX5_all_11 : decode cX5_all 11 = .ok (.if_icmp .ge 23, 3) := dk_162 0 23 (dk_at dksX5_all_0 11 rfl rfl)
theorem dX5_all_14 : decode cX5_all 14 = .ok (.iload_n 2, 1) := dk_28 (dk_at dksX5_all_0 14 rfl rfl)
theorem dX5_all_15 : decode cX5_all 15 = .ok (.aload_n 0, 1) := dk_42 (dk_at dksX5_all_0 15 rfl rfl)
theorem dX5_all_16 : decode cX5_all 16 = .ok (.getfield 26, 3) := dk_180 0 26 (dk_at dksX5_all_0 16 rfl rfl)
theorem dX5_all_19 : decode cX5_all 19 = .ok (.bipush 8, 2) := dk_16 8 (dk_at dksX5_all_0 19 rfl rfl)
theorem dX5_all_21 : decode cX5_all 21 = .ok (.iload_n 1, 1) := dk_27 (dk_at dksX5_all_0 21 rfl rfl)
theorem dX5_all_22 : decode cX5_all 22 = .ok (.imul, 1) := dk_104 (dk_at dksX5_all_0 22 rfl rfl)
theorem dX5_all_23 : decode cX5_all 23 = .ok (.iload_n 3, 1) := dk_29 (dk_at dksX5_all_0 23 rfl rfl)
theorem dX5_all_24 : decode cX5_all 24 = .ok (.iadd, 1) := dk_96 (dk_at dksX5_all_1 0 rfl rfl)
theorem dX5_all_25 : decode cX5_all 25 = .ok (.iaload, 1) := dk_46 (dk_at dksX5_all_1 1 rfl rfl)
theorem dX5_all_26 : decode cX5_all 26 = .ok (.iadd, 1) := dk_96 (dk_at dksX5_all_1 2 rfl rfl)
theorem dX5_all_27 : decode cX5_all 27 = .ok (.istore_n 2, 1) := dk_61 (dk_at dksX5_all_1 3 rfl rfl)
theorem dX5_all_28 : decode cX5_all 28 = .ok (.iinc 3 1, 3) := dk_132 3 1 (dk_at dksX5_all_1 4 rfl rfl)
theorem dX5_all_31 : decode cX5_all 31 = .ok (.goto (-27), 3) := dk_167 255 229 (dk_at dksX5_all_1 7 rfl rfl)
theorem dX5_all_34 : decode cX5_all 34 = .ok (.iload_n 2, 1) := dk_28 (dk_at dksX5_all_1 10 rfl rfl)
theorem dX5_all_35 : decode cX5_all 35 = .ok (.ireturn, 1) := dk_172 (dk_at dksX5_all_1 11 rfl rfl)
abbrev cX5_knot : ByteArray := prog_15_method_64_code
def yX5_knot : MethodName := ⟨RX5, "knot", "(I)I"⟩
def dkwX5_knot_4 : List UInt8 := [29, 16, 99, 164, 0, 8, 16, 99, 167, 0, 4, 29, 79, 42, 180, 0, 26, 28, 46, 172]
abbrev dktX5_knot_4 : List UInt8 := dkwX5_knot_4 ++ []
def dkwX5_knot_3 : List UInt8 := [4, 100, 61, 42, 180, 0, 26, 28, 46, 42, 180, 0, 26, 28, 4, 96, 46, 96, 62, 42, 180, 0, 26, 28]
abbrev dktX5_knot_3 : List UInt8 := dkwX5_knot_3 ++ dktX5_knot_4
def dkwX5_knot_2 : List UInt8 := [16, 252, 172, 42, 180, 0, 23, 27, 92, 46, 4, 100, 79, 16, 8, 27, 104, 42, 180, 0, 23, 27, 46, 96]
abbrev dktX5_knot_2 : List UInt8 := dkwX5_knot_2 ++ dktX5_knot_3
def dkwX5_knot_1 : List UInt8 := [27, 46, 156, 0, 8, 16, 245, 167, 0, 19, 42, 180, 0, 23, 27, 46, 154, 0, 8, 16, 244, 167, 0, 5]
abbrev dktX5_knot_1 : List UInt8 := dkwX5_knot_1 ++ dktX5_knot_2
def dkwX5_knot_0 : List UInt8 := [27, 184, 0, 201, 154, 0, 6, 16, 254, 172, 42, 180, 0, 23, 27, 46, 5, 162, 0, 34, 42, 180, 0, 23]
abbrev dktX5_knot_0 : List UInt8 := dkwX5_knot_0 ++ dktX5_knot_1
theorem dksX5_knot_0 : cX5_knot.data.toList.drop 0 = dktX5_knot_0 := by decide +kernel
theorem dksX5_knot_1 : cX5_knot.data.toList.drop 24 = dktX5_knot_1 := dk_seg dksX5_knot_0 24 rfl rfl
theorem dksX5_knot_2 : cX5_knot.data.toList.drop 48 = dktX5_knot_2 := dk_seg dksX5_knot_1 24 rfl rfl
theorem dksX5_knot_3 : cX5_knot.data.toList.drop 72 = dktX5_knot_3 := dk_seg dksX5_knot_2 24 rfl rfl
theorem dksX5_knot_4 : cX5_knot.data.toList.drop 96 = dktX5_knot_4 := dk_seg dksX5_knot_3 24 rfl rfl
theorem dX5_knot_0 : decode cX5_knot 0 = .ok (.iload_n 1, 1) := dk_27 (dk_at dksX5_knot_0 0 rfl rfl)
theorem dX5_knot_1 : decode cX5_knot 1 = .ok (.invokestatic 201, 3) := dk_184 0 201 (dk_at dksX5_knot_0 1 rfl rfl)
theorem dX5_knot_4 : decode cX5_knot 4 = .ok (.ifCond .ne 6, 3) := dk_154 0 6 (dk_at dksX5_knot_0 4 rfl rfl)
theorem dX5_knot_7 : decode cX5_knot 7 = .ok (.bipush (-2), 2) := dk_16 254 (dk_at dksX5_knot_0 7 rfl rfl)
theorem dX5_knot_9 : decode cX5_knot 9 = .ok (.ireturn, 1) := dk_172 (dk_at dksX5_knot_0 9 rfl rfl)
theorem dX5_knot_10 : decode cX5_knot 10 = .ok (.aload_n 0, 1) := dk_42 (dk_at dksX5_knot_0 10 rfl rfl)
theorem dX5_knot_11 : decode cX5_knot 11 = .ok (.getfield 23, 3) := dk_180 0 23 (dk_at dksX5_knot_0 11 rfl rfl)
theorem dX5_knot_14 : decode cX5_knot 14 = .ok (.iload_n 1, 1) := dk_27 (dk_at dksX5_knot_0 14 rfl rfl)
theorem dX5_knot_15 : decode cX5_knot 15 = .ok (.iaload, 1) := dk_46 (dk_at dksX5_knot_0 15 rfl rfl)
theorem dX5_knot_16 : decode cX5_knot 16 = .ok (.iconst 2, 1) := dk_5 (dk_at dksX5_knot_0 16 rfl rfl)
theorem dX5_knot_17 : decode cX5_knot 17 = .ok (.if_icmp .ge 34, 3) := dk_162 0 34 (dk_at dksX5_knot_0 17 rfl rfl)
theorem dX5_knot_20 : decode cX5_knot 20 = .ok (.aload_n 0, 1) := dk_42 (dk_at dksX5_knot_0 20 rfl rfl)
theorem dX5_knot_21 : decode cX5_knot 21 = .ok (.getfield 23, 3) := dk_180 0 23 (dk_at dksX5_knot_0 21 rfl rfl)
theorem dX5_knot_24 : decode cX5_knot 24 = .ok (.iload_n 1, 1) := dk_27 (dk_at dksX5_knot_1 0 rfl rfl)
theorem dX5_knot_25 : decode cX5_knot 25 = .ok (.iaload, 1) := dk_46 (dk_at dksX5_knot_1 1 rfl rfl)
theorem dX5_knot_26 : decode cX5_knot 26 = .ok (.ifCond .ge 8, 3) := dk_156 0 8 (dk_at dksX5_knot_1 2 rfl rfl)
theorem dX5_knot_29 : decode cX5_knot 29 = .ok (.bipush (-11), 2) := dk_16 245 (dk_at dksX5_knot_1 5 rfl rfl)
theorem dX5_knot_31 : decode cX5_knot 31 = .ok (.goto 19, 3) := dk_167 0 19 (dk_at dksX5_knot_1 7 rfl rfl)
theorem dX5_knot_34 : decode cX5_knot 34 = .ok (.aload_n 0, 1) := dk_42 (dk_at dksX5_knot_1 10 rfl rfl)
theorem dX5_knot_35 : decode cX5_knot 35 = .ok (.getfield 23, 3) := dk_180 0 23 (dk_at dksX5_knot_1 11 rfl rfl)
theorem dX5_knot_38 : decode cX5_knot 38 = .ok (.iload_n 1, 1) := dk_27 (dk_at dksX5_knot_1 14 rfl rfl)
theorem dX5_knot_39 : decode cX5_knot 39 = .ok (.iaload, 1) := dk_46 (dk_at dksX5_knot_1 15 rfl rfl)
theorem dX5_knot_40 : decode cX5_knot 40 = .ok (.ifCond .ne 8, 3) := dk_154 0 8 (dk_at dksX5_knot_1 16 rfl rfl)
theorem dX5_knot_43 : decode cX5_knot 43 = .ok (.bipush (-12), 2) := dk_16 244 (dk_at dksX5_knot_1 19 rfl rfl)
theorem dX5_knot_45 : decode cX5_knot 45 = .ok (.goto 5, 3) := dk_167 0 5 (dk_at dksX5_knot_1 21 rfl rfl)
theorem dX5_knot_48 : decode cX5_knot 48 = .ok (.bipush (-4), 2) := dk_16 252 (dk_at dksX5_knot_2 0 rfl rfl)
theorem dX5_knot_50 : decode cX5_knot 50 = .ok (.ireturn, 1) := dk_172 (dk_at dksX5_knot_2 2 rfl rfl)
theorem dX5_knot_51 : decode cX5_knot 51 = .ok (.aload_n 0, 1) := dk_42 (dk_at dksX5_knot_2 3 rfl rfl)
theorem dX5_knot_52 : decode cX5_knot 52 = .ok (.getfield 23, 3) := dk_180 0 23 (dk_at dksX5_knot_2 4 rfl rfl)
theorem dX5_knot_55 : decode cX5_knot 55 = .ok (.iload_n 1, 1) := dk_27 (dk_at dksX5_knot_2 7 rfl rfl)
theorem dX5_knot_56 : decode cX5_knot 56 = .ok (.dup2, 1) := dk_92 (dk_at dksX5_knot_2 8 rfl rfl)
theorem dX5_knot_57 : decode cX5_knot 57 = .ok (.iaload, 1) := dk_46 (dk_at dksX5_knot_2 9 rfl rfl)
theorem dX5_knot_58 : decode cX5_knot 58 = .ok (.iconst 1, 1) := dk_4 (dk_at dksX5_knot_2 10 rfl rfl)
theorem dX5_knot_59 : decode cX5_knot 59 = .ok (.isub, 1) := dk_100 (dk_at dksX5_knot_2 11 rfl rfl)
theorem dX5_knot_60 : decode cX5_knot 60 = .ok (.iastore, 1) := dk_79 (dk_at dksX5_knot_2 12 rfl rfl)
theorem dX5_knot_61 : decode cX5_knot 61 = .ok (.bipush 8, 2) := dk_16 8 (dk_at dksX5_knot_2 13 rfl rfl)
theorem dX5_knot_63 : decode cX5_knot 63 = .ok (.iload_n 1, 1) := dk_27 (dk_at dksX5_knot_2 15 rfl rfl)
theorem dX5_knot_64 : decode cX5_knot 64 = .ok (.imul, 1) := dk_104 (dk_at dksX5_knot_2 16 rfl rfl)
theorem dX5_knot_65 : decode cX5_knot 65 = .ok (.aload_n 0, 1) := dk_42 (dk_at dksX5_knot_2 17 rfl rfl)
theorem dX5_knot_66 : decode cX5_knot 66 = .ok (.getfield 23, 3) := dk_180 0 23 (dk_at dksX5_knot_2 18 rfl rfl)
theorem dX5_knot_69 : decode cX5_knot 69 = .ok (.iload_n 1, 1) := dk_27 (dk_at dksX5_knot_2 21 rfl rfl)
theorem dX5_knot_70 : decode cX5_knot 70 = .ok (.iaload, 1) := dk_46 (dk_at dksX5_knot_2 22 rfl rfl)
theorem dX5_knot_71 : decode cX5_knot 71 = .ok (.iadd, 1) := dk_96 (dk_at dksX5_knot_2 23 rfl rfl)
theorem dX5_knot_72 : decode cX5_knot 72 = .ok (.iconst 1, 1) := dk_4 (dk_at dksX5_knot_3 0 rfl rfl)
theorem dX5_knot_73 : decode cX5_knot 73 = .ok (.isub, 1) := dk_100 (dk_at dksX5_knot_3 1 rfl rfl)
theorem dX5_knot_74 : decode cX5_knot 74 = .ok (.istore_n 2, 1) := dk_61 (dk_at dksX5_knot_3 2 rfl rfl)
theorem dX5_knot_75 : decode cX5_knot 75 = .ok (.aload_n 0, 1) := dk_42 (dk_at dksX5_knot_3 3 rfl rfl)
theorem dX5_knot_76 : decode cX5_knot 76 = .ok (.getfield 26, 3) := dk_180 0 26 (dk_at dksX5_knot_3 4 rfl rfl)
theorem dX5_knot_79 : decode cX5_knot 79 = .ok (.iload_n 2, 1) := dk_28 (dk_at dksX5_knot_3 7 rfl rfl)
theorem dX5_knot_80 : decode cX5_knot 80 = .ok (.iaload, 1) := dk_46 (dk_at dksX5_knot_3 8 rfl rfl)
theorem dX5_knot_81 : decode cX5_knot 81 = .ok (.aload_n 0, 1) := dk_42 (dk_at dksX5_knot_3 9 rfl rfl)
theorem dX5_knot_82 : decode cX5_knot 82 = .ok (.getfield 26, 3) := dk_180 0 26 (dk_at dksX5_knot_3 10 rfl rfl)
theorem dX5_knot_85 : decode cX5_knot 85 = .ok (.iload_n 2, 1) := dk_28 (dk_at dksX5_knot_3 13 rfl rfl)
theorem dX5_knot_86 : decode cX5_knot 86 = .ok (.iconst 1, 1) := dk_4 (dk_at dksX5_knot_3 14 rfl rfl)
theorem dX5_knot_87 : decode cX5_knot 87 = .ok (.iadd, 1) := dk_96 (dk_at dksX5_knot_3 15 rfl rfl)
theorem dX5_knot_88 : decode cX5_knot 88 = .ok (.iaload, 1) := dk_46 (dk_at dksX5_knot_3 16 rfl rfl)
theorem dX5_knot_89 : decode cX5_knot 89 = .ok (.iadd, 1) := dk_96 (dk_at dksX5_knot_3 17 rfl rfl)
theorem dX5_knot_90 : decode cX5_knot 90 = .ok (.istore_n 3, 1) := dk_62 (dk_at dksX5_knot_3 18 rfl rfl)
theorem dX5_knot_91 : decode cX5_knot 91 = .ok (.aload_n 0, 1) := dk_42 (dk_at dksX5_knot_3 19 rfl rfl)
theorem dX5_knot_92 : decode cX5_knot 92 = .ok (.getfield 26, 3) := dk_180 0 26 (dk_at dksX5_knot_3 20 rfl rfl)
theorem dX5_knot_95 : decode cX5_knot 95 = .ok (.iload_n 2, 1) := dk_28 (dk_at dksX5_knot_3 23 rfl rfl)
theorem dX5_knot_96 : decode cX5_knot 96 = .ok (.iload_n 3, 1) := dk_29 (dk_at dksX5_knot_4 0 rfl rfl)
theorem dX5_knot_97 : decode cX5_knot 97 = .ok (.bipush 99, 2) := dk_16 99 (dk_at dksX5_knot_4 1 rfl rfl)
theorem dX5_knot_99 : decode cX5_knot 99 = .ok (.if_icmp .le 8, 3) := dk_164 0 8 (dk_at dksX5_knot_4 3 rfl rfl)
theorem dX5_knot_102 : decode cX5_knot 102 = .ok (.bipush 99, 2) := dk_16 99 (dk_at dksX5_knot_4 6 rfl rfl)
theorem dX5_knot_104 : decode cX5_knot 104 = .ok (.goto 4, 3) := dk_167 0 4 (dk_at dksX5_knot_4 8 rfl rfl)
theorem dX5_knot_107 : decode cX5_knot 107 = .ok (.iload_n 3, 1) := dk_29 (dk_at dksX5_knot_4 11 rfl rfl)
theorem dX5_knot_108 : decode cX5_knot 108 = .ok (.iastore, 1) := dk_79 (dk_at dksX5_knot_4 12 rfl rfl)
theorem dX5_knot_109 : decode cX5_knot 109 = .ok (.aload_n 0, 1) := dk_42 (dk_at dksX5_knot_4 13 rfl rfl)
theorem dX5_knot_110 : decode cX5_knot 110 = .ok (.getfield 26, 3) := dk_180 0 26 (dk_at dksX5_knot_4 14 rfl rfl)
theorem dX5_knot_113 : decode cX5_knot 113 = .ok (.iload_n 2, 1) := dk_28 (dk_at dksX5_knot_4 17 rfl rfl)
theorem dX5_knot_114 : decode cX5_knot 114 = .ok (.iaload, 1) := dk_46 (dk_at dksX5_knot_4 18 rfl rfl)
theorem dX5_knot_115 : decode cX5_knot 115 = .ok (.ireturn, 1) := dk_172 (dk_at dksX5_knot_4 19 rfl rfl)
abbrev cX5_measure : ByteArray := prog_15_method_65_code
def yX5_measure : MethodName := ⟨RX5, "measure", "(II)I"⟩
def dkwX5_measure_7 : List UInt8 := [160, 0, 8, 21, 5, 167, 0, 5, 21, 4, 172]
abbrev dktX5_measure_7 : List UInt8 := dkwX5_measure_7 ++ []
def dkwX5_measure_6 : List UInt8 := [154, 0, 11, 42, 27, 182, 0, 208, 167, 0, 24, 28, 4, 160, 0, 7, 29, 167, 0, 15, 28, 5]
abbrev dktX5_measure_6 : List UInt8 := dkwX5_measure_6 ++ dktX5_measure_7
def dkwX5_measure_5 : List UInt8 := [21, 7, 29, 164, 0, 8, 21, 7, 167, 0, 4, 29, 62, 21, 7, 54, 5, 132, 6, 1, 167, 255, 189, 28]
abbrev dktX5_measure_5 : List UInt8 := dkwX5_measure_5 ++ dktX5_measure_6
def dkwX5_measure_4 : List UInt8 := [54, 7, 21, 4, 21, 6, 158, 0, 14, 21, 7, 21, 5, 164, 0, 7, 4, 167, 0, 4, 3, 96, 54, 4]
abbrev dktX5_measure_4 : List UInt8 := dkwX5_measure_4 ++ dktX5_measure_5
def dkwX5_measure_3 : List UInt8 := [21, 6, 42, 180, 0, 23, 27, 46, 162, 0, 62, 42, 180, 0, 26, 16, 8, 27, 104, 21, 6, 96, 46]
abbrev dktX5_measure_3 : List UInt8 := dkwX5_measure_3 ++ dktX5_measure_4
def dkwX5_measure_2 : List UInt8 := [10, 20, 0, 199, 184, 0, 47, 153, 0, 6, 16, 244, 172, 3, 62, 3, 54, 4, 3, 54, 5, 3, 54, 6]
abbrev dktX5_measure_2 : List UInt8 := dkwX5_measure_2 ++ dktX5_measure_3
def dkwX5_measure_1 : List UInt8 := [172, 42, 180, 0, 23, 27, 46, 156, 0, 6, 16, 245, 172, 42, 180, 0, 23, 27, 46, 154, 0, 18, 28, 133]
abbrev dktX5_measure_1 : List UInt8 := dkwX5_measure_1 ++ dktX5_measure_2
def dkwX5_measure_0 : List UInt8 := [27, 184, 0, 201, 154, 0, 6, 16, 254, 172, 28, 133, 9, 20, 0, 211, 184, 0, 47, 154, 0, 6, 16, 253]
abbrev dktX5_measure_0 : List UInt8 := dkwX5_measure_0 ++ dktX5_measure_1
theorem dksX5_measure_0 : cX5_measure.data.toList.drop 0 = dktX5_measure_0 := by decide +kernel
theorem dksX5_measure_1 : cX5_measure.data.toList.drop 24 = dktX5_measure_1 := dk_seg dksX5_measure_0 24 rfl rfl
theorem dksX5_measure_2 : cX5_measure.data.toList.drop 48 = dktX5_measure_2 := dk_seg dksX5_measure_1 24 rfl rfl
theorem dksX5_measure_3 : cX5_measure.data.toList.drop 72 = dktX5_measure_3 := dk_seg dksX5_measure_2 24 rfl rfl
theorem dksX5_measure_4 : cX5_measure.data.toList.drop 95 = dktX5_measure_4 := dk_seg dksX5_measure_3 23 rfl rfl
theorem dksX5_measure_5 : cX5_measure.data.toList.drop 119 = dktX5_measure_5 := dk_seg dksX5_measure_4 24 rfl rfl
theorem dksX5_measure_6 : cX5_measure.data.toList.drop 143 = dktX5_measure_6 := dk_seg dksX5_measure_5 24 rfl rfl
theorem dksX5_measure_7 : cX5_measure.data.toList.drop 165 = dktX5_measure_7 := dk_seg dksX5_measure_6 22 rfl rfl
theorem dX5_measure_0 : decode cX5_measure 0 = .ok (.iload_n 1, 1) := dk_27 (dk_at dksX5_measure_0 0 rfl rfl)
theorem dX5_measure_1 : decode cX5_measure 1 = .ok (.invokestatic 201, 3) := dk_184 0 201 (dk_at dksX5_measure_0 1 rfl rfl)
theorem dX5_measure_4 : decode cX5_measure 4 = .ok (.ifCond .ne 6, 3) := dk_154 0 6 (dk_at dksX5_measure_0 4 rfl rfl)
theorem dX5_measure_7 : decode cX5_measure 7 = .ok (.bipush (-2), 2) := dk_16 254 (dk_at dksX5_measure_0 7 rfl rfl)
theorem dX5_measure_9 : decode cX5_measure 9 = .ok (.ireturn, 1) := dk_172 (dk_at dksX5_measure_0 9 rfl rfl)
theorem dX5_measure_10 : decode cX5_measure 10 = .ok (.iload_n 2, 1) := dk_28 (dk_at dksX5_measure_0 10 rfl rfl)
theorem dX5_measure_11 : decode cX5_measure 11 = .ok (.i2l, 1) := dk_133 (dk_at dksX5_measure_0 11 rfl rfl)
theorem dX5_measure_12 : decode cX5_measure 12 = .ok (.lconst 0, 1) := dk_9 (dk_at dksX5_measure_0 12 rfl rfl)
theorem dX5_measure_13 : decode cX5_measure 13 = .ok (.ldc2_w 211, 3) := dk_20 0 211 (dk_at dksX5_measure_0 13 rfl rfl)
theorem dX5_measure_16 : decode cX5_measure 16 = .ok (.invokestatic 47, 3) := dk_184 0 47 (dk_at dksX5_measure_0 16 rfl rfl)
theorem dX5_measure_19 : decode cX5_measure 19 = .ok (.ifCond .ne 6, 3) := dk_154 0 6 (dk_at dksX5_measure_0 19 rfl rfl)
theorem dX5_measure_22 : decode cX5_measure 22 = .ok (.bipush (-3), 2) := dk_16 253 (dk_at dksX5_measure_0 22 rfl rfl)
theorem dX5_measure_24 : decode cX5_measure 24 = .ok (.ireturn, 1) := dk_172 (dk_at dksX5_measure_1 0 rfl rfl)
theorem dX5_measure_25 : decode cX5_measure 25 = .ok (.aload_n 0, 1) := dk_42 (dk_at dksX5_measure_1 1 rfl rfl)
theorem dX5_measure_26 : decode cX5_measure 26 = .ok (.getfield 23, 3) := dk_180 0 23 (dk_at dksX5_measure_1 2 rfl rfl)
theorem dX5_measure_29 : decode cX5_measure 29 = .ok (.iload_n 1, 1) := dk_27 (dk_at dksX5_measure_1 5 rfl rfl)
theorem dX5_measure_30 : decode cX5_measure 30 = .ok (.iaload, 1) := dk_46 (dk_at dksX5_measure_1 6 rfl rfl)
theorem dX5_measure_31 : decode cX5_measure 31 = .ok (.ifCond .ge 6, 3) := dk_156 0 6 (dk_at dksX5_measure_1 7 rfl rfl)
theorem dX5_measure_34 : decode cX5_measure 34 = .ok (.bipush (-11), 2) := dk_16 245 (dk_at dksX5_measure_1 10 rfl rfl)
theorem dX5_measure_36 : decode cX5_measure 36 = .ok (.ireturn, 1) := dk_172 (dk_at dksX5_measure_1 12 rfl rfl)
theorem dX5_measure_37 : decode cX5_measure 37 = .ok (.aload_n 0, 1) := dk_42 (dk_at dksX5_measure_1 13 rfl rfl)
theorem dX5_measure_38 : decode cX5_measure 38 = .ok (.getfield 23, 3) := dk_180 0 23 (dk_at dksX5_measure_1 14 rfl rfl)
theorem dX5_measure_41 : decode cX5_measure 41 = .ok (.iload_n 1, 1) := dk_27 (dk_at dksX5_measure_1 17 rfl rfl)
theorem dX5_measure_42 : decode cX5_measure 42 = .ok (.iaload, 1) := dk_46 (dk_at dksX5_measure_1 18 rfl rfl)
theorem dX5_measure_43 : decode cX5_measure 43 = .ok (.ifCond .ne 18, 3) := dk_154 0 18 (dk_at dksX5_measure_1 19 rfl rfl)
theorem dX5_measure_46 : decode cX5_measure 46 = .ok (.iload_n 2, 1) := dk_28 (dk_at dksX5_measure_1 22 rfl rfl)
theorem dX5_measure_47 : decode cX5_measure 47 = .ok (.i2l, 1) := dk_133 (dk_at dksX5_measure_1 23 rfl rfl)
theorem dX5_measure_48 : decode cX5_measure 48 = .ok (.lconst 1, 1) := dk_10 (dk_at dksX5_measure_2 0 rfl rfl)
theorem dX5_measure_49 : decode cX5_measure 49 = .ok (.ldc2_w 199, 3) := dk_20 0 199 (dk_at dksX5_measure_2 1 rfl rfl)
theorem dX5_measure_52 : decode cX5_measure 52 = .ok (.invokestatic 47, 3) := dk_184 0 47 (dk_at dksX5_measure_2 4 rfl rfl)
theorem dX5_measure_55 : decode cX5_measure 55 = .ok (.ifCond .eq 6, 3) := dk_153 0 6 (dk_at dksX5_measure_2 7 rfl rfl)
theorem dX5_measure_58 : decode cX5_measure 58 = .ok (.bipush (-12), 2) := dk_16 244 (dk_at dksX5_measure_2 10 rfl rfl)
theorem dX5_measure_60 : decode cX5_measure 60 = .ok (.ireturn, 1) := dk_172 (dk_at dksX5_measure_2 12 rfl rfl)
theorem dX5_measure_61 : decode cX5_measure 61 = .ok (.iconst 0, 1) := dk_3 (dk_at dksX5_measure_2 13 rfl rfl)
theorem dX5_measure_62 : decode cX5_measure 62 = .ok (.istore_n 3, 1) := dk_62 (dk_at dksX5_measure_2 14 rfl rfl)
theorem dX5_measure_63 : decode cX5_measure 63 = .ok (.iconst 0, 1) := dk_3 (dk_at dksX5_measure_2 15 rfl rfl)
theorem dX5_measure_64 : decode cX5_measure 64 = .ok (.istore 4, 2) := dk_54 4 (dk_at dksX5_measure_2 16 rfl rfl)
theorem dX5_measure_66 : decode cX5_measure 66 = .ok (.iconst 0, 1) := dk_3 (dk_at dksX5_measure_2 18 rfl rfl)
theorem dX5_measure_67 : decode cX5_measure 67 = .ok (.istore 5, 2) := dk_54 5 (dk_at dksX5_measure_2 19 rfl rfl)
theorem dX5_measure_69 : decode cX5_measure 69 = .ok (.iconst 0, 1) := dk_3 (dk_at dksX5_measure_2 21 rfl rfl)
theorem dX5_measure_70 : decode cX5_measure 70 = .ok (.istore 6, 2) := dk_54 6 (dk_at dksX5_measure_2 22 rfl rfl)
theorem dX5_measure_72 : decode cX5_measure 72 = .ok (.iload 6, 2) := dk_21 6 (dk_at dksX5_measure_3 0 rfl rfl)
theorem dX5_measure_74 : decode cX5_measure 74 = .ok (.aload_n 0, 1) := dk_42 (dk_at dksX5_measure_3 2 rfl rfl)
theorem dX5_measure_75 : decode cX5_measure 75 = .ok (.getfield 23, 3) := dk_180 0 23 (dk_at dksX5_measure_3 3 rfl rfl)
theorem dX5_measure_78 : decode cX5_measure 78 = .ok (.iload_n 1, 1) := dk_27 (dk_at dksX5_measure_3 6 rfl rfl)
theorem dX5_measure_79 : decode cX5_measure 79 = .ok (.iaload, 1) := dk_46 (dk_at dksX5_measure_3 7 rfl rfl)
theorem dX5_measure_80 : decode cX5_measure 80 = .ok (.if_icmp .ge 62, 3) := dk_162 0 62 (dk_at dksX5_measure_3 8 rfl rfl)
theorem dX5_measure_83 : decode cX5_measure 83 = .ok (.aload_n 0, 1) := dk_42 (dk_at dksX5_measure_3 11 rfl rfl)
theorem dX5_measure_84 : decode cX5_measure 84 = .ok (.getfield 26, 3) := dk_180 0 26 (dk_at dksX5_measure_3 12 rfl rfl)
theorem dX5_measure_87 : decode cX5_measure 87 = .ok (.bipush 8, 2) := dk_16 8 (dk_at dksX5_measure_3 15 rfl rfl)
theorem dX5_measure_89 : decode cX5_measure 89 = .ok (.iload_n 1, 1) := dk_27 (dk_at dksX5_measure_3 17 rfl rfl)
theorem dX5_measure_90 : decode cX5_measure 90 = .ok (.imul, 1) := dk_104 (dk_at dksX5_measure_3 18 rfl rfl)
theorem dX5_measure_91 : decode cX5_measure 91 = .ok (.iload 6, 2) := dk_21 6 (dk_at dksX5_measure_3 19 rfl rfl)
theorem dX5_measure_93 : decode cX5_measure 93 = .ok (.iadd, 1) := dk_96 (dk_at dksX5_measure_3 21 rfl rfl)
theorem dX5_measure_94 : decode cX5_measure 94 = .ok (.iaload, 1) := dk_46 (dk_at dksX5_measure_3 22 rfl rfl)
theorem dX5_measure_95 : decode cX5_measure 95 = .ok (.istore 7, 2) := dk_54 7 (dk_at dksX5_measure_4 0 rfl rfl)
theorem dX5_measure_97 : decode cX5_measure 97 = .ok (.iload 4, 2) := dk_21 4 (dk_at dksX5_measure_4 2 rfl rfl)
theorem dX5_measure_99 : decode cX5_measure 99 = .ok (.iload 6, 2) := dk_21 6 (dk_at dksX5_measure_4 4 rfl rfl)
theorem dX5_measure_101 : decode cX5_measure 101 = .ok (.ifCond .le 14, 3) := dk_158 0 14 (dk_at dksX5_measure_4 6 rfl rfl)
theorem dX5_measure_104 : decode cX5_measure 104 = .ok (.iload 7, 2) := dk_21 7 (dk_at dksX5_measure_4 9 rfl rfl)
theorem dX5_measure_106 : decode cX5_measure 106 = .ok (.iload 5, 2) := dk_21 5 (dk_at dksX5_measure_4 11 rfl rfl)
theorem dX5_measure_108 : decode cX5_measure 108 = .ok (.if_icmp .le 7, 3) := dk_164 0 7 (dk_at dksX5_measure_4 13 rfl rfl)
theorem dX5_measure_111 : decode cX5_measure 111 = .ok (.iconst 1, 1) := dk_4 (dk_at dksX5_measure_4 16 rfl rfl)
theorem dX5_measure_112 : decode cX5_measure 112 = .ok (.goto 4, 3) := dk_167 0 4 (dk_at dksX5_measure_4 17 rfl rfl)
theorem dX5_measure_115 : decode cX5_measure 115 = .ok (.iconst 0, 1) := dk_3 (dk_at dksX5_measure_4 20 rfl rfl)
theorem dX5_measure_116 : decode cX5_measure 116 = .ok (.iadd, 1) := dk_96 (dk_at dksX5_measure_4 21 rfl rfl)
theorem dX5_measure_117 : decode cX5_measure 117 = .ok (.istore 4, 2) := dk_54 4 (dk_at dksX5_measure_4 22 rfl rfl)
theorem dX5_measure_119 : decode cX5_measure 119 = .ok (.iload 7, 2) := dk_21 7 (dk_at dksX5_measure_5 0 rfl rfl)
theorem dX5_measure_121 : decode cX5_measure 121 = .ok (.iload_n 3, 1) := dk_29 (dk_at dksX5_measure_5 2 rfl rfl)
theorem dX5_measure_122 : decode cX5_measure 122 = .ok (.if_icmp .le 8, 3) := dk_164 0 8 (dk_at dksX5_measure_5 3 rfl rfl)
theorem dX5_measure_125 : decode cX5_measure 125 = .ok (.iload 7, 2) := dk_21 7 (dk_at dksX5_measure_5 6 rfl rfl)
theorem dX5_measure_127 : decode cX5_measure 127 = .ok (.goto 4, 3) := dk_167 0 4 (dk_at dksX5_measure_5 8 rfl rfl)
theorem dX5_measure_130 : decode cX5_measure 130 = .ok (.iload_n 3, 1) := dk_29 (dk_at dksX5_measure_5 11 rfl rfl)
theorem dX5_measure_131 : decode cX5_measure 131 = .ok (.istore_n 3, 1) := dk_62 (dk_at dksX5_measure_5 12 rfl rfl)
theorem dX5_measure_132 : decode cX5_measure 132 = .ok (.iload 7, 2) := dk_21 7 (dk_at dksX5_measure_5 13 rfl rfl)
theorem dX5_measure_134 : decode cX5_measure 134 = .ok (.istore 5, 2) := dk_54 5 (dk_at dksX5_measure_5 15 rfl rfl)
theorem dX5_measure_136 : decode cX5_measure 136 = .ok (.iinc 6 1, 3) := dk_132 6 1 (dk_at dksX5_measure_5 17 rfl rfl)
theorem dX5_measure_139 : decode cX5_measure 139 = .ok (.goto (-67), 3) := dk_167 255 189 (dk_at dksX5_measure_5 20 rfl rfl)
theorem dX5_measure_142 : decode cX5_measure 142 = .ok (.iload_n 2, 1) := dk_28 (dk_at dksX5_measure_5 23 rfl rfl)
theorem dX5_measure_143 : decode cX5_measure 143 = .ok (.ifCond .ne 11, 3) := dk_154 0 11 (dk_at dksX5_measure_6 0 rfl rfl)
theorem dX5_measure_146 : decode cX5_measure 146 = .ok (.aload_n 0, 1) := dk_42 (dk_at dksX5_measure_6 3 rfl rfl)
theorem dX5_measure_147 : decode cX5_measure 147 = .ok (.iload_n 1, 1) := dk_27 (dk_at dksX5_measure_6 4 rfl rfl)
theorem dX5_measure_148 : decode cX5_measure 148 = .ok (.invokevirtual 208, 3) := dk_182 0 208 (dk_at dksX5_measure_6 5 rfl rfl)
theorem dX5_measure_151 : decode cX5_measure 151 = .ok (.goto 24, 3) := dk_167 0 24 (dk_at dksX5_measure_6 8 rfl rfl)
theorem dX5_measure_154 : decode cX5_measure 154 = .ok (.iload_n 2, 1) := dk_28 (dk_at dksX5_measure_6 11 rfl rfl)
theorem dX5_measure_155 : decode cX5_measure 155 = .ok (.iconst 1, 1) := dk_4 (dk_at dksX5_measure_6 12 rfl rfl)
theorem dX5_measure_156 : decode cX5_measure 156 = .ok (.if_icmp .ne 7, 3) := dk_160 0 7 (dk_at dksX5_measure_6 13 rfl rfl)
theorem dX5_measure_159 : decode cX5_measure 159 = .ok (.iload_n 3, 1) := dk_29 (dk_at dksX5_measure_6 16 rfl rfl)
theorem dX5_measure_160 : decode cX5_measure 160 = .ok (.goto 15, 3) := dk_167 0 15 (dk_at dksX5_measure_6 17 rfl rfl)
theorem dX5_measure_163 : decode cX5_measure 163 = .ok (.iload_n 2, 1) := dk_28 (dk_at dksX5_measure_6 20 rfl rfl)
theorem dX5_measure_164 : decode cX5_measure 164 = .ok (.iconst 2, 1) := dk_5 (dk_at dksX5_measure_6 21 rfl rfl)
theorem dX5_measure_165 : decode cX5_measure 165 = .ok (.if_icmp .ne 8, 3) := dk_160 0 8 (dk_at dksX5_measure_7 0 rfl rfl)
theorem dX5_measure_168 : decode cX5_measure 168 = .ok (.iload 5, 2) := dk_21 5 (dk_at dksX5_measure_7 3 rfl rfl)
theorem dX5_measure_170 : decode cX5_measure 170 = .ok (.goto 5, 3) := dk_167 0 5 (dk_at dksX5_measure_7 5 rfl rfl)
theorem dX5_measure_173 : decode cX5_measure 173 = .ok (.iload 4, 2) := dk_21 4 (dk_at dksX5_measure_7 8 rfl rfl)
theorem dX5_measure_175 : decode cX5_measure 175 = .ok (.ireturn, 1) := dk_172 (dk_at dksX5_measure_7 10 rfl rfl)
abbrev cX5_rewind : ByteArray := prog_15_method_66_code
def yX5_rewind : MethodName := ⟨RX5, "rewind", "(II)I"⟩
def dkwX5_rewind_5 : List UInt8 := [180, 0, 23, 28, 92, 46, 4, 96, 79, 167, 255, 195, 42, 180, 0, 23, 28, 46, 172]
abbrev dktX5_rewind_5 : List UInt8 := dkwX5_rewind_5 ++ []
def dkwX5_rewind_4 : List UInt8 := [180, 0, 23, 28, 46, 96, 42, 180, 0, 26, 16, 8, 27, 104, 42, 180, 0, 23, 27, 46, 96, 46, 79, 42]
abbrev dktX5_rewind_4 : List UInt8 := dkwX5_rewind_4 ++ dktX5_rewind_5
def dkwX5_rewind_3 : List UInt8 := [158, 0, 58, 42, 180, 0, 23, 27, 92, 46, 4, 100, 79, 42, 180, 0, 26, 16, 8, 28, 104, 42]
abbrev dktX5_rewind_3 : List UInt8 := dkwX5_rewind_3 ++ dktX5_rewind_4
def dkwX5_rewind_2 : List UInt8 := [27, 46, 42, 180, 0, 23, 28, 46, 96, 16, 8, 164, 0, 6, 16, 243, 172, 42, 180, 0, 23, 27, 46]
abbrev dktX5_rewind_2 : List UInt8 := dkwX5_rewind_2 ++ dktX5_rewind_3
def dkwX5_rewind_1 : List UInt8 := [180, 0, 23, 27, 46, 155, 0, 12, 42, 180, 0, 23, 28, 46, 156, 0, 6, 16, 245, 172, 42, 180, 0, 23]
abbrev dktX5_rewind_1 : List UInt8 := dkwX5_rewind_1 ++ dktX5_rewind_2
def dkwX5_rewind_0 : List UInt8 := [27, 184, 0, 201, 153, 0, 15, 28, 184, 0, 201, 153, 0, 8, 27, 28, 160, 0, 6, 16, 254, 172, 42]
abbrev dktX5_rewind_0 : List UInt8 := dkwX5_rewind_0 ++ dktX5_rewind_1
theorem dksX5_rewind_0 : cX5_rewind.data.toList.drop 0 = dktX5_rewind_0 := by decide +kernel
theorem dksX5_rewind_1 : cX5_rewind.data.toList.drop 23 = dktX5_rewind_1 := dk_seg dksX5_rewind_0 23 rfl rfl
theorem dksX5_rewind_2 : cX5_rewind.data.toList.drop 47 = dktX5_rewind_2 := dk_seg dksX5_rewind_1 24 rfl rfl
theorem dksX5_rewind_3 : cX5_rewind.data.toList.drop 70 = dktX5_rewind_3 := dk_seg dksX5_rewind_2 23 rfl rfl
theorem dksX5_rewind_4 : cX5_rewind.data.toList.drop 92 = dktX5_rewind_4 := dk_seg dksX5_rewind_3 22 rfl rfl
theorem dksX5_rewind_5 : cX5_rewind.data.toList.drop 116 = dktX5_rewind_5 := dk_seg dksX5_rewind_4 24 rfl rfl
theorem dX5_rewind_0 : decode cX5_rewind 0 = .ok (.iload_n 1, 1) := dk_27 (dk_at dksX5_rewind_0 0 rfl rfl)
theorem dX5_rewind_1 : decode cX5_rewind 1 = .ok (.invokestatic 201, 3) := dk_184 0 201 (dk_at dksX5_rewind_0 1 rfl rfl)
theorem dX5_rewind_4 : decode cX5_rewind 4 = .ok (.ifCond .eq 15, 3) := dk_153 0 15 (dk_at dksX5_rewind_0 4 rfl rfl)
theorem dX5_rewind_7 : decode cX5_rewind 7 = .ok (.iload_n 2, 1) := dk_28 (dk_at dksX5_rewind_0 7 rfl rfl)
theorem dX5_rewind_8 : decode cX5_rewind 8 = .ok (.invokestatic 201, 3) := dk_184 0 201 (dk_at dksX5_rewind_0 8 rfl rfl)
theorem dX5_rewind_11 : decode cX5_rewind 11 = .ok (.ifCond .eq 8, 3) := dk_153 0 8 (dk_at dksX5_rewind_0 11 rfl rfl)
theorem dX5_rewind_14 : decode cX5_rewind 14 = .ok (.iload_n 1, 1) := dk_27 (dk_at dksX5_rewind_0 14 rfl rfl)
theorem dX5_rewind_15 : decode cX5_rewind 15 = .ok (.iload_n 2, 1) := dk_28 (dk_at dksX5_rewind_0 15 rfl rfl)
theorem dX5_rewind_16 : decode cX5_rewind 16 = .ok (.if_icmp .ne 6, 3) := dk_160 0 6 (dk_at dksX5_rewind_0 16 rfl rfl)
theorem dX5_rewind_19 : decode cX5_rewind 19 = .ok (.bipush (-2), 2) := dk_16 254 (dk_at dksX5_rewind_0 19 rfl rfl)
theorem dX5_rewind_21 : decode cX5_rewind 21 = .ok (.ireturn, 1) := dk_172 (dk_at dksX5_rewind_0 21 rfl rfl)
theorem dX5_rewind_22 : decode cX5_rewind 22 = .ok (.aload_n 0, 1) := dk_42 (dk_at dksX5_rewind_0 22 rfl rfl)
theorem dX5_rewind_23 : decode cX5_rewind 23 = .ok (.getfield 23, 3) := dk_180 0 23 (dk_at dksX5_rewind_1 0 rfl rfl)
theorem dX5_rewind_26 : decode cX5_rewind 26 = .ok (.iload_n 1, 1) := dk_27 (dk_at dksX5_rewind_1 3 rfl rfl)
theorem dX5_rewind_27 : decode cX5_rewind 27 = .ok (.iaload, 1) := dk_46 (dk_at dksX5_rewind_1 4 rfl rfl)
theorem dX5_rewind_28 : decode cX5_rewind 28 = .ok (.ifCond .lt 12, 3) := dk_155 0 12 (dk_at dksX5_rewind_1 5 rfl rfl)
theorem dX5_rewind_31 : decode cX5_rewind 31 = .ok (.aload_n 0, 1) := dk_42 (dk_at dksX5_rewind_1 8 rfl rfl)
theorem dX5_rewind_32 : decode cX5_rewind 32 = .ok (.getfield 23, 3) := dk_180 0 23 (dk_at dksX5_rewind_1 9 rfl rfl)
theorem dX5_rewind_35 : decode cX5_rewind 35 = .ok (.iload_n 2, 1) := dk_28 (dk_at dksX5_rewind_1 12 rfl rfl)
theorem dX5_rewind_36 : decode cX5_rewind 36 = .ok (.iaload, 1) := dk_46 (dk_at dksX5_rewind_1 13 rfl rfl)
theorem dX5_rewind_37 : decode cX5_rewind 37 = .ok (.ifCond .ge 6, 3) := dk_156 0 6 (dk_at dksX5_rewind_1 14 rfl rfl)
theorem dX5_rewind_40 : decode cX5_rewind 40 = .ok (.bipush (-11), 2) := dk_16 245 (dk_at dksX5_rewind_1 17 rfl rfl)
theorem dX5_rewind_42 : decode cX5_rewind 42 = .ok (.ireturn, 1) := dk_172 (dk_at dksX5_rewind_1 19 rfl rfl)
theorem dX5_rewind_43 : decode cX5_rewind 43 = .ok (.aload_n 0, 1) := dk_42 (dk_at dksX5_rewind_1 20 rfl rfl)
theorem dX5_rewind_44 : decode cX5_rewind 44 = .ok (.getfield 23, 3) := dk_180 0 23 (dk_at dksX5_rewind_1 21 rfl rfl)
theorem dX5_rewind_47 : decode cX5_rewind 47 = .ok (.iload_n 1, 1) := dk_27 (dk_at dksX5_rewind_2 0 rfl rfl)
theorem dX5_rewind_48 : decode cX5_rewind 48 = .ok (.iaload, 1) := dk_46 (dk_at dksX5_rewind_2 1 rfl rfl)
theorem dX5_rewind_49 : decode cX5_rewind 49 = .ok (.aload_n 0, 1) := dk_42 (dk_at dksX5_rewind_2 2 rfl rfl)
theorem dX5_rewind_50 : decode cX5_rewind 50 = .ok (.getfield 23, 3) := dk_180 0 23 (dk_at dksX5_rewind_2 3 rfl rfl)
theorem dX5_rewind_53 : decode cX5_rewind 53 = .ok (.iload_n 2, 1) := dk_28 (dk_at dksX5_rewind_2 6 rfl rfl)
theorem dX5_rewind_54 : decode cX5_rewind 54 = .ok (.iaload, 1) := dk_46 (dk_at dksX5_rewind_2 7 rfl rfl)
theorem dX5_rewind_55 : decode cX5_rewind 55 = .ok (.iadd, 1) := dk_96 (dk_at dksX5_rewind_2 8 rfl rfl)
theorem dX5_rewind_56 : decode cX5_rewind 56 = .ok (.bipush 8, 2) := dk_16 8 (dk_at dksX5_rewind_2 9 rfl rfl)
theorem dX5_rewind_58 : decode cX5_rewind 58 = .ok (.if_icmp .le 6, 3) := dk_164 0 6 (dk_at dksX5_rewind_2 11 rfl rfl)
theorem dX5_rewind_61 : decode cX5_rewind 61 = .ok (.bipush (-13), 2) := dk_16 243 (dk_at dksX5_rewind_2 14 rfl rfl)
theorem dX5_rewind_63 : decode cX5_rewind 63 = .ok (.ireturn, 1) := dk_172 (dk_at dksX5_rewind_2 16 rfl rfl)
theorem dX5_rewind_64 : decode cX5_rewind 64 = .ok (.aload_n 0, 1) := dk_42 (dk_at dksX5_rewind_2 17 rfl rfl)
theorem dX5_rewind_65 : decode cX5_rewind 65 = .ok (.getfield 23, 3) := dk_180 0 23 (dk_at dksX5_rewind_2 18 rfl rfl)
theorem dX5_rewind_68 : decode cX5_rewind 68 = .ok (.iload_n 1, 1) := dk_27 (dk_at dksX5_rewind_2 21 rfl rfl)
theorem dX5_rewind_69 : decode cX5_rewind 69 = .ok (.iaload, 1) := dk_46 (dk_at dksX5_rewind_2 22 rfl rfl)
theorem dX5_rewind_70 : decode cX5_rewind 70 = .ok (.ifCond .le 58, 3) := dk_158 0 58 (dk_at dksX5_rewind_3 0 rfl rfl)
theorem dX5_rewind_73 : decode cX5_rewind 73 = .ok (.aload_n 0, 1) := dk_42 (dk_at dksX5_rewind_3 3 rfl rfl)
theorem dX5_rewind_74 : decode cX5_rewind 74 = .ok (.getfield 23, 3) := dk_180 0 23 (dk_at dksX5_rewind_3 4 rfl rfl)
theorem dX5_rewind_77 : decode cX5_rewind 77 = .ok (.iload_n 1, 1) := dk_27 (dk_at dksX5_rewind_3 7 rfl rfl)
theorem dX5_rewind_78 : decode cX5_rewind 78 = .ok (.dup2, 1) := dk_92 (dk_at dksX5_rewind_3 8 rfl rfl)
theorem dX5_rewind_79 : decode cX5_rewind 79 = .ok (.iaload, 1) := dk_46 (dk_at dksX5_rewind_3 9 rfl rfl)
theorem dX5_rewind_80 : decode cX5_rewind 80 = .ok (.iconst 1, 1) := dk_4 (dk_at dksX5_rewind_3 10 rfl rfl)
theorem dX5_rewind_81 : decode cX5_rewind 81 = .ok (.isub, 1) := dk_100 (dk_at dksX5_rewind_3 11 rfl rfl)
theorem dX5_rewind_82 : decode cX5_rewind 82 = .ok (.iastore, 1) := dk_79 (dk_at dksX5_rewind_3 12 rfl rfl)
theorem dX5_rewind_83 : decode cX5_rewind 83 = .ok (.aload_n 0, 1) := dk_42 (dk_at dksX5_rewind_3 13 rfl rfl)
theorem dX5_rewind_84 : decode cX5_rewind 84 = .ok (.getfield 26, 3) := dk_180 0 26 (dk_at dksX5_rewind_3 14 rfl rfl)
theorem dX5_rewind_87 : decode cX5_rewind 87 = .ok (.bipush 8, 2) := dk_16 8 (dk_at dksX5_rewind_3 17 rfl rfl)
theorem dX5_rewind_89 : decode cX5_rewind 89 = .ok (.iload_n 2, 1) := dk_28 (dk_at dksX5_rewind_3 19 rfl rfl)
theorem dX5_rewind_90 : decode cX5_rewind 90 = .ok (.imul, 1) := dk_104 (dk_at dksX5_rewind_3 20 rfl rfl)
theorem dX5_rewind_91 : decode cX5_rewind 91 = .ok (.aload_n 0, 1) := dk_42 (dk_at dksX5_rewind_3 21 rfl rfl)
theorem dX5_rewind_92 : decode cX5_rewind 92 = .ok (.getfield 23, 3) := dk_180 0 23 (dk_at dksX5_rewind_4 0 rfl rfl)
theorem dX5_rewind_95 : decode cX5_rewind 95 = .ok (.iload_n 2, 1) := dk_28 (dk_at dksX5_rewind_4 3 rfl rfl)
theorem dX5_rewind_96 : decode cX5_rewind 96 = .ok (.iaload, 1) := dk_46 (dk_at dksX5_rewind_4 4 rfl rfl)
theorem dX5_rewind_97 : decode cX5_rewind 97 = .ok (.iadd, 1) := dk_96 (dk_at dksX5_rewind_4 5 rfl rfl)
theorem dX5_rewind_98 : decode cX5_rewind 98 = .ok (.aload_n 0, 1) := dk_42 (dk_at dksX5_rewind_4 6 rfl rfl)
theorem dX5_rewind_99 : decode cX5_rewind 99 = .ok (.getfield 26, 3) := dk_180 0 26 (dk_at dksX5_rewind_4 7 rfl rfl)
theorem dX5_rewind_102 : decode cX5_rewind 102 = .ok (.bipush 8, 2) := dk_16 8 (dk_at dksX5_rewind_4 10 rfl rfl)
theorem dX5_rewind_104 : decode cX5_rewind 104 = .ok (.iload_n 1, 1) := dk_27 (dk_at dksX5_rewind_4 12 rfl rfl)
theorem dX5_rewind_105 : decode cX5_rewind 105 = .ok (.imul, 1) := dk_104 (dk_at dksX5_rewind_4 13 rfl rfl)
theorem dX5_rewind_106 : decode cX5_rewind 106 = .ok (.aload_n 0, 1) := dk_42 (dk_at dksX5_rewind_4 14 rfl rfl)
theorem dX5_rewind_107 : decode cX5_rewind 107 = .ok (.getfield 23, 3) := dk_180 0 23 (dk_at dksX5_rewind_4 15 rfl rfl)
theorem dX5_rewind_110 : decode cX5_rewind 110 = .ok (.iload_n 1, 1) := dk_27 (dk_at dksX5_rewind_4 18 rfl rfl)
theorem dX5_rewind_111 : decode cX5_rewind 111 = .ok (.iaload, 1) := dk_46 (dk_at dksX5_rewind_4 19 rfl rfl)
theorem dX5_rewind_112 : decode cX5_rewind 112 = .ok (.iadd, 1) := dk_96 (dk_at dksX5_rewind_4 20 rfl rfl)
theorem dX5_rewind_113 : decode cX5_rewind 113 = .ok (.iaload, 1) := dk_46 (dk_at dksX5_rewind_4 21 rfl rfl)
theorem dX5_rewind_114 : decode cX5_rewind 114 = .ok (.iastore, 1) := dk_79 (dk_at dksX5_rewind_4 22 rfl rfl)
theorem dX5_rewind_115 : decode cX5_rewind 115 = .ok (.aload_n 0, 1) := dk_42 (dk_at dksX5_rewind_4 23 rfl rfl)
theorem dX5_rewind_116 : decode cX5_rewind 116 = .ok (.getfield 23, 3) := dk_180 0 23 (dk_at dksX5_rewind_5 0 rfl rfl)
theorem dX5_rewind_119 : decode cX5_rewind 119 = .ok (.iload_n 2, 1) := dk_28 (dk_at dksX5_rewind_5 3 rfl rfl)
theorem dX5_rewind_120 : decode cX5_rewind 120 = .ok (.dup2, 1) := dk_92 (dk_at dksX5_rewind_5 4 rfl rfl)
theorem dX5_rewind_121 : decode cX5_rewind 121 = .ok (.iaload, 1) := dk_46 (dk_at dksX5_rewind_5 5 rfl rfl)
theorem dX5_rewind_122 : decode cX5_rewind 122 = .ok (.iconst 1, 1) := dk_4 (dk_at dksX5_rewind_5 6 rfl rfl)
theorem dX5_rewind_123 : decode cX5_rewind 123 = .ok (.iadd, 1) := dk_96 (dk_at dksX5_rewind_5 7 rfl rfl)
theorem dX5_rewind_124 : decode cX5_rewind 124 = .ok (.iastore, 1) := dk_79 (dk_at dksX5_rewind_5 8 rfl rfl)
theorem dX5_rewind_125 : decode cX5_rewind 125 = .ok (.goto (-61), 3) := dk_167 255 195 (dk_at dksX5_rewind_5 9 rfl rfl)
theorem dX5_rewind_128 : decode cX5_rewind 128 = .ok (.aload_n 0, 1) := dk_42 (dk_at dksX5_rewind_5 12 rfl rfl)
theorem dX5_rewind_129 : decode cX5_rewind 129 = .ok (.getfield 23, 3) := dk_180 0 23 (dk_at dksX5_rewind_5 13 rfl rfl)
theorem dX5_rewind_132 : decode cX5_rewind 132 = .ok (.iload_n 2, 1) := dk_28 (dk_at dksX5_rewind_5 16 rfl rfl)
theorem dX5_rewind_133 : decode cX5_rewind 133 = .ok (.iaload, 1) := dk_46 (dk_at dksX5_rewind_5 17 rfl rfl)
theorem dX5_rewind_134 : decode cX5_rewind 134 = .ok (.ireturn, 1) := dk_172 (dk_at dksX5_rewind_5 18 rfl rfl)
abbrev cX5_drop : ByteArray := prog_15_method_67_code
def yX5_drop : MethodName := ⟨RX5, "drop", "(I)I"⟩
def dkwX5_drop_1 : List UInt8 := [28, 156, 0, 8, 16, 245, 167, 0, 4, 28, 172]
abbrev dktX5_drop_1 : List UInt8 := dkwX5_drop_1 ++ []
def dkwX5_drop_0 : List UInt8 := [27, 184, 0, 201, 154, 0, 6, 16, 254, 172, 42, 180, 0, 23, 27, 46, 61, 42, 180, 0, 23, 27, 2, 79]
abbrev dktX5_drop_0 : List UInt8 := dkwX5_drop_0 ++ dktX5_drop_1
theorem dksX5_drop_0 : cX5_drop.data.toList.drop 0 = dktX5_drop_0 := by decide +kernel
theorem dksX5_drop_1 : cX5_drop.data.toList.drop 24 = dktX5_drop_1 := dk_seg dksX5_drop_0 24 rfl rfl
theorem dX5_drop_0 : decode cX5_drop 0 = .ok (.iload_n 1, 1) := dk_27 (dk_at dksX5_drop_0 0 rfl rfl)
theorem dX5_drop_1 : decode cX5_drop 1 = .ok (.invokestatic 201, 3) := dk_184 0 201 (dk_at dksX5_drop_0 1 rfl rfl)
theorem dX5_drop_4 : decode cX5_drop 4 = .ok (.ifCond .ne 6, 3) := dk_154 0 6 (dk_at dksX5_drop_0 4 rfl rfl)
theorem dX5_drop_7 : decode cX5_drop 7 = .ok (.bipush (-2), 2) := dk_16 254 (dk_at dksX5_drop_0 7 rfl rfl)
theorem dX5_drop_9 : decode cX5_drop 9 = .ok (.ireturn, 1) := dk_172 (dk_at dksX5_drop_0 9 rfl rfl)
theorem dX5_drop_10 : decode cX5_drop 10 = .ok (.aload_n 0, 1) := dk_42 (dk_at dksX5_drop_0 10 rfl rfl)
theorem dX5_drop_11 : decode cX5_drop 11 = .ok (.getfield 23, 3) := dk_180 0 23 (dk_at dksX5_drop_0 11 rfl rfl)
theorem dX5_drop_14 : decode cX5_drop 14 = .ok (.iload_n 1, 1) := dk_27 (dk_at dksX5_drop_0 14 rfl rfl)
theorem dX5_drop_15 : decode cX5_drop 15 = .ok (.iaload, 1) := dk_46 (dk_at dksX5_drop_0 15 rfl rfl)
theorem dX5_drop_16 : decode cX5_drop 16 = .ok (.istore_n 2, 1) := dk_61 (dk_at dksX5_drop_0 16 rfl rfl)
theorem dX5_drop_17 : decode cX5_drop 17 = .ok (.aload_n 0, 1) := dk_42 (dk_at dksX5_drop_0 17 rfl rfl)
theorem dX5_drop_18 : decode cX5_drop 18 = .ok (.getfield 23, 3) := dk_180 0 23 (dk_at dksX5_drop_0 18 rfl rfl)
theorem dX5_drop_21 : decode cX5_drop 21 = .ok (.iload_n 1, 1) := dk_27 (dk_at dksX5_drop_0 21 rfl rfl)
theorem dX5_drop_22 : decode cX5_drop 22 = .ok (.iconst (-1), 1) := dk_2 (dk_at dksX5_drop_0 22 rfl rfl)
theorem dX5_drop_23 : decode cX5_drop 23 = .ok (.iastore, 1) := dk_79 (dk_at dksX5_drop_0 23 rfl rfl)
theorem dX5_drop_24 : decode cX5_drop 24 = .ok (.iload_n 2, 1) := dk_28 (dk_at dksX5_drop_1 0 rfl rfl)
theorem dX5_drop_25 : decode cX5_drop 25 = .ok (.ifCond .ge 8, 3) := dk_156 0 8 (dk_at dksX5_drop_1 1 rfl rfl)
theorem dX5_drop_28 : decode cX5_drop 28 = .ok (.bipush (-11), 2) := dk_16 245 (dk_at dksX5_drop_1 4 rfl rfl)
theorem dX5_drop_30 : decode cX5_drop 30 = .ok (.goto 4, 3) := dk_167 0 4 (dk_at dksX5_drop_1 6 rfl rfl)
theorem dX5_drop_33 : decode cX5_drop 33 = .ok (.iload_n 2, 1) := dk_28 (dk_at dksX5_drop_1 9 rfl rfl)
theorem dX5_drop_34 : decode cX5_drop 34 = .ok (.ireturn, 1) := dk_172 (dk_at dksX5_drop_1 10 rfl rfl)
abbrev cX5_count : ByteArray := prog_15_method_77_code
def yX5_count : MethodName := ⟨RX5, "count", "(I)I"⟩
def dkwX5_count_6 : List UInt8 := [16, 253, 172]
abbrev dktX5_count_6 : List UInt8 := dkwX5_count_6 ++ []
def dkwX5_count_5 : List UInt8 := [182, 0, 231, 172, 42, 182, 0, 235, 172, 42, 182, 0, 238, 172, 42, 180, 0, 121, 172, 42, 180, 0, 51, 172]
abbrev dktX5_count_5 : List UInt8 := dkwX5_count_5 ++ dktX5_count_6
def dkwX5_count_4 : List UInt8 := [180, 0, 7, 3, 46, 182, 0, 231, 172, 42, 42, 180, 0, 7, 6, 46, 16, 22, 42, 180, 0, 7, 4, 46]
abbrev dktX5_count_4 : List UInt8 := dkwX5_count_4 ++ dktX5_count_5
def dkwX5_count_3 : List UInt8 := [182, 0, 222, 172, 42, 182, 0, 225, 172, 42, 182, 0, 228, 172, 42, 42, 180, 0, 7, 5, 46, 7, 42]
abbrev dktX5_count_3 : List UInt8 := dkwX5_count_3 ++ dktX5_count_4
def dkwX5_count_2 : List UInt8 := [42, 180, 0, 7, 27, 46, 172, 42, 182, 0, 216, 172, 42, 182, 0, 196, 172, 42, 182, 0, 219, 172, 42]
abbrev dktX5_count_2 : List UInt8 := dkwX5_count_2 ++ dktX5_count_3
def dkwX5_count_1 : List UInt8 := [170, 0, 0, 0, 0, 0, 173, 0, 0, 0, 0, 0, 0, 0, 15, 0, 0, 0, 79, 0, 0, 0, 79, 0, 0, 0, 79, 0, 0, 0, 79, 0, 0, 0, 86, 0, 0, 0, 91, 0, 0, 0, 96, 0, 0, 0, 101, 0, 0, 0, 106, 0, 0, 0, 111, 0, 0, 0, 116, 0, 0, 0, 134, 0, 0, 0, 153, 0, 0, 0, 158, 0, 0, 0, 163, 0, 0, 0, 168]
abbrev dktX5_count_1 : List UInt8 := dkwX5_count_1 ++ dktX5_count_2
def dkwX5_count_0 : List UInt8 := [27]
abbrev dktX5_count_0 : List UInt8 := dkwX5_count_0 ++ dktX5_count_1
theorem dksX5_count_0 : cX5_count.data.toList.drop 0 = dktX5_count_0 := by decide +kernel
theorem dksX5_count_1 : cX5_count.data.toList.drop 1 = dktX5_count_1 := dk_seg dksX5_count_0 1 rfl rfl
theorem dksX5_count_2 : cX5_count.data.toList.drop 80 = dktX5_count_2 := dk_seg dksX5_count_1 79 rfl rfl
theorem dksX5_count_3 : cX5_count.data.toList.drop 103 = dktX5_count_3 := dk_seg dksX5_count_2 23 rfl rfl
theorem dksX5_count_4 : cX5_count.data.toList.drop 126 = dktX5_count_4 := dk_seg dksX5_count_3 23 rfl rfl
theorem dksX5_count_5 : cX5_count.data.toList.drop 150 = dktX5_count_5 := dk_seg dksX5_count_4 24 rfl rfl
theorem dksX5_count_6 : cX5_count.data.toList.drop 174 = dktX5_count_6 := dk_seg dksX5_count_5 24 rfl rfl
theorem dX5_count_0 : decode cX5_count 0 = .ok (.iload_n 1, 1) := dk_27 (dk_at dksX5_count_0 0 rfl rfl)
theorem dX5_count_1 : decode cX5_count 1 = .ok (.tableswitch 173 0 15 #[79, 79, 79, 79, 86, 91, 96, 101, 106, 111, 116, 134, 153, 158, 163, 168], 79) := by decide +kernel
theorem dX5_count_80 : decode cX5_count 80 = .ok (.aload_n 0, 1) := dk_42 (dk_at dksX5_count_2 0 rfl rfl)
theorem dX5_count_81 : decode cX5_count 81 = .ok (.getfield 7, 3) := dk_180 0 7 (dk_at dksX5_count_2 1 rfl rfl)
theorem dX5_count_84 : decode cX5_count 84 = .ok (.iload_n 1, 1) := dk_27 (dk_at dksX5_count_2 4 rfl rfl)
theorem dX5_count_85 : decode cX5_count 85 = .ok (.iaload, 1) := dk_46 (dk_at dksX5_count_2 5 rfl rfl)
theorem dX5_count_86 : decode cX5_count 86 = .ok (.ireturn, 1) := dk_172 (dk_at dksX5_count_2 6 rfl rfl)
theorem dX5_count_87 : decode cX5_count 87 = .ok (.aload_n 0, 1) := dk_42 (dk_at dksX5_count_2 7 rfl rfl)
theorem dX5_count_88 : decode cX5_count 88 = .ok (.invokevirtual 216, 3) := dk_182 0 216 (dk_at dksX5_count_2 8 rfl rfl)
theorem dX5_count_91 : decode cX5_count 91 = .ok (.ireturn, 1) := dk_172 (dk_at dksX5_count_2 11 rfl rfl)
theorem dX5_count_92 : decode cX5_count 92 = .ok (.aload_n 0, 1) := dk_42 (dk_at dksX5_count_2 12 rfl rfl)
theorem dX5_count_93 : decode cX5_count 93 = .ok (.invokevirtual 196, 3) := dk_182 0 196 (dk_at dksX5_count_2 13 rfl rfl)
theorem dX5_count_96 : decode cX5_count 96 = .ok (.ireturn, 1) := dk_172 (dk_at dksX5_count_2 16 rfl rfl)
theorem dX5_count_97 : decode cX5_count 97 = .ok (.aload_n 0, 1) := dk_42 (dk_at dksX5_count_2 17 rfl rfl)
theorem dX5_count_98 : decode cX5_count 98 = .ok (.invokevirtual 219, 3) := dk_182 0 219 (dk_at dksX5_count_2 18 rfl rfl)
theorem dX5_count_101 : decode cX5_count 101 = .ok (.ireturn, 1) := dk_172 (dk_at dksX5_count_2 21 rfl rfl)
theorem dX5_count_102 : decode cX5_count 102 = .ok (.aload_n 0, 1) := dk_42 (dk_at dksX5_count_2 22 rfl rfl)
theorem dX5_count_103 : decode cX5_count 103 = .ok (.invokevirtual 222, 3) := dk_182 0 222 (dk_at dksX5_count_3 0 rfl rfl)
theorem dX5_count_106 : decode cX5_count 106 = .ok (.ireturn, 1) := dk_172 (dk_at dksX5_count_3 3 rfl rfl)
theorem dX5_count_107 : decode cX5_count 107 = .ok (.aload_n 0, 1) := dk_42 (dk_at dksX5_count_3 4 rfl rfl)
theorem dX5_count_108 : decode cX5_count 108 = .ok (.invokevirtual 225, 3) := dk_182 0 225 (dk_at dksX5_count_3 5 rfl rfl)
theorem dX5_count_111 : decode cX5_count 111 = .ok (.ireturn, 1) := dk_172 (dk_at dksX5_count_3 8 rfl rfl)
theorem dX5_count_112 : decode cX5_count 112 = .ok (.aload_n 0, 1) := dk_42 (dk_at dksX5_count_3 9 rfl rfl)
theorem dX5_count_113 : decode cX5_count 113 = .ok (.invokevirtual 228, 3) := dk_182 0 228 (dk_at dksX5_count_3 10 rfl rfl)
theorem dX5_count_116 : decode cX5_count 116 = .ok (.ireturn, 1) := dk_172 (dk_at dksX5_count_3 13 rfl rfl)
theorem dX5_count_117 : decode cX5_count 117 = .ok (.aload_n 0, 1) := dk_42 (dk_at dksX5_count_3 14 rfl rfl)
theorem dX5_count_118 : decode cX5_count 118 = .ok (.aload_n 0, 1) := dk_42 (dk_at dksX5_count_3 15 rfl rfl)
theorem dX5_count_119 : decode cX5_count 119 = .ok (.getfield 7, 3) := dk_180 0 7 (dk_at dksX5_count_3 16 rfl rfl)
theorem dX5_count_122 : decode cX5_count 122 = .ok (.iconst 2, 1) := dk_5 (dk_at dksX5_count_3 19 rfl rfl)
theorem dX5_count_123 : decode cX5_count 123 = .ok (.iaload, 1) := dk_46 (dk_at dksX5_count_3 20 rfl rfl)
theorem dX5_count_124 : decode cX5_count 124 = .ok (.iconst 4, 1) := dk_7 (dk_at dksX5_count_3 21 rfl rfl)
theorem dX5_count_125 : decode cX5_count 125 = .ok (.aload_n 0, 1) := dk_42 (dk_at dksX5_count_3 22 rfl rfl)
theorem dX5_count_126 : decode cX5_count 126 = .ok (.getfield 7, 3) := dk_180 0 7 (dk_at dksX5_count_4 0 rfl rfl)
theorem dX5_count_129 : decode cX5_count 129 = .ok (.iconst 0, 1) := dk_3 (dk_at dksX5_count_4 3 rfl rfl)
theorem dX5_count_130 : decode cX5_count 130 = .ok (.iaload, 1) := dk_46 (dk_at dksX5_count_4 4 rfl rfl)
theorem dX5_count_131 : decode cX5_count 131 = .ok (.invokevirtual 231, 3) := dk_182 0 231 (dk_at dksX5_count_4 5 rfl rfl)
theorem dX5_count_134 : decode cX5_count 134 = .ok (.ireturn, 1) := dk_172 (dk_at dksX5_count_4 8 rfl rfl)
theorem dX5_count_135 : decode cX5_count 135 = .ok (.aload_n 0, 1) := dk_42 (dk_at dksX5_count_4 9 rfl rfl)
theorem dX5_count_136 : decode cX5_count 136 = .ok (.aload_n 0, 1) := dk_42 (dk_at dksX5_count_4 10 rfl rfl)
theorem dX5_count_137 : decode cX5_count 137 = .ok (.getfield 7, 3) := dk_180 0 7 (dk_at dksX5_count_4 11 rfl rfl)
theorem dX5_count_140 : decode cX5_count 140 = .ok (.iconst 3, 1) := dk_6 (dk_at dksX5_count_4 14 rfl rfl)
theorem dX5_count_141 : decode cX5_count 141 = .ok (.iaload, 1) := dk_46 (dk_at dksX5_count_4 15 rfl rfl)
theorem dX5_count_142 : decode cX5_count 142 = .ok (.bipush 22, 2) := dk_16 22 (dk_at dksX5_count_4 16 rfl rfl)
theorem dX5_count_144 : decode cX5_count 144 = .ok (.aload_n 0, 1) := dk_42 (dk_at dksX5_count_4 18 rfl rfl)
theorem dX5_count_145 : decode cX5_count 145 = .ok (.getfield 7, 3) := dk_180 0 7 (dk_at dksX5_count_4 19 rfl rfl)
theorem dX5_count_148 : decode cX5_count 148 = .ok (.iconst 1, 1) := dk_4 (dk_at dksX5_count_4 22 rfl rfl)
theorem dX5_count_149 : decode cX5_count 149 = .ok (.iaload, 1) := dk_46 (dk_at dksX5_count_4 23 rfl rfl)
theorem dX5_count_150 : decode cX5_count 150 = .ok (.invokevirtual 231, 3) := dk_182 0 231 (dk_at dksX5_count_5 0 rfl rfl)
theorem dX5_count_153 : decode cX5_count 153 = .ok (.ireturn, 1) := dk_172 (dk_at dksX5_count_5 3 rfl rfl)
theorem dX5_count_154 : decode cX5_count 154 = .ok (.aload_n 0, 1) := dk_42 (dk_at dksX5_count_5 4 rfl rfl)
theorem dX5_count_155 : decode cX5_count 155 = .ok (.invokevirtual 235, 3) := dk_182 0 235 (dk_at dksX5_count_5 5 rfl rfl)
theorem dX5_count_158 : decode cX5_count 158 = .ok (.ireturn, 1) := dk_172 (dk_at dksX5_count_5 8 rfl rfl)
theorem dX5_count_159 : decode cX5_count 159 = .ok (.aload_n 0, 1) := dk_42 (dk_at dksX5_count_5 9 rfl rfl)
theorem dX5_count_160 : decode cX5_count 160 = .ok (.invokevirtual 238, 3) := dk_182 0 238 (dk_at dksX5_count_5 10 rfl rfl)
theorem dX5_count_163 : decode cX5_count 163 = .ok (.ireturn, 1) := dk_172 (dk_at dksX5_count_5 13 rfl rfl)
theorem dX5_count_164 : decode cX5_count 164 = .ok (.aload_n 0, 1) := dk_42 (dk_at dksX5_count_5 14 rfl rfl)
theorem dX5_count_165 : decode cX5_count 165 = .ok (.getfield 121, 3) := dk_180 0 121 (dk_at dksX5_count_5 15 rfl rfl)
theorem dX5_count_168 : decode cX5_count 168 = .ok (.ireturn, 1) := dk_172 (dk_at dksX5_count_5 18 rfl rfl)
theorem dX5_count_169 : decode cX5_count 169 = .ok (.aload_n 0, 1) := dk_42 (dk_at dksX5_count_5 19 rfl rfl)
theorem dX5_count_170 : decode cX5_count 170 = .ok (.getfield 51, 3) := dk_180 0 51 (dk_at dksX5_count_5 20 rfl rfl)
theorem dX5_count_173 : decode cX5_count 173 = .ok (.ireturn, 1) := dk_172 (dk_at dksX5_count_5 23 rfl rfl)
theorem dX5_count_174 : decode cX5_count 174 = .ok (.bipush (-3), 2) := dk_16 253 (dk_at dksX5_count_6 0 rfl rfl)
theorem dX5_count_176 : decode cX5_count 176 = .ok (.ireturn, 1) := dk_172 (dk_at dksX5_count_6 2 rfl rfl)
abbrev cX5_longestOfEnds : ByteArray := prog_15_method_57_code
def yX5_longestOfEnds : MethodName := ⟨RX5, "longestOfEnds", "()I"⟩
def dkwX5_longestOfEnds_3 : List UInt8 := [132, 2, 1, 167, 255, 186, 27, 172]
abbrev dktX5_longestOfEnds_3 : List UInt8 := dkwX5_longestOfEnds_3 ++ []
def dkwX5_longestOfEnds_2 : List UInt8 := [27, 164, 0, 7, 29, 167, 0, 4, 27, 60, 21, 4, 27, 164, 0, 8, 21, 4, 167, 0, 4, 27, 60]
abbrev dktX5_longestOfEnds_2 : List UInt8 := dkwX5_longestOfEnds_2 ++ dktX5_longestOfEnds_3
def dkwX5_longestOfEnds_1 : List UInt8 := [46, 4, 184, 0, 138, 62, 42, 28, 182, 0, 134, 42, 180, 0, 7, 4, 46, 3, 184, 0, 138, 54, 4, 29]
abbrev dktX5_longestOfEnds_1 : List UInt8 := dkwX5_longestOfEnds_1 ++ dktX5_longestOfEnds_2
def dkwX5_longestOfEnds_0 : List UInt8 := [3, 60, 3, 61, 28, 42, 180, 0, 7, 3, 46, 162, 0, 66, 42, 28, 182, 0, 134, 42, 180, 0, 7, 4]
abbrev dktX5_longestOfEnds_0 : List UInt8 := dkwX5_longestOfEnds_0 ++ dktX5_longestOfEnds_1
theorem dksX5_longestOfEnds_0 : cX5_longestOfEnds.data.toList.drop 0 = dktX5_longestOfEnds_0 := by decide +kernel
theorem dksX5_longestOfEnds_1 : cX5_longestOfEnds.data.toList.drop 24 = dktX5_longestOfEnds_1 := dk_seg dksX5_longestOfEnds_0 24 rfl rfl
theorem dksX5_longestOfEnds_2 : cX5_longestOfEnds.data.toList.drop 48 = dktX5_longestOfEnds_2 := dk_seg dksX5_longestOfEnds_1 24 rfl rfl
theorem dksX5_longestOfEnds_3 : cX5_longestOfEnds.data.toList.drop 71 = dktX5_longestOfEnds_3 := dk_seg dksX5_longestOfEnds_2 23 rfl rfl
theorem dX5_longestOfEnds_0 : decode cX5_longestOfEnds 0 = .ok (.iconst 0, 1) := dk_3 (dk_at dksX5_longestOfEnds_0 0 rfl rfl)
theorem dX5_longestOfEnds_1 : decode cX5_longestOfEnds 1 = .ok (.istore_n 1, 1) := dk_60 (dk_at dksX5_longestOfEnds_0 1 rfl rfl)
theorem dX5_longestOfEnds_2 : decode cX5_longestOfEnds 2 = .ok (.iconst 0, 1) := dk_3 (dk_at dksX5_longestOfEnds_0 2 rfl rfl)
theorem dX5_longestOfEnds_3 : decode cX5_longestOfEnds 3 = .ok (.istore_n 2, 1) := dk_61 (dk_at dksX5_longestOfEnds_0 3 rfl rfl)
theorem dX5_longestOfEnds_4 : decode cX5_longestOfEnds 4 = .ok (.iload_n 2, 1) := dk_28 (dk_at dksX5_longestOfEnds_0 4 rfl rfl)
theorem dX5_longestOfEnds_5 : decode cX5_longestOfEnds 5 = .ok (.aload_n 0, 1) := dk_42 (dk_at dksX5_longestOfEnds_0 5 rfl rfl)
theorem dX5_longestOfEnds_6 : decode cX5_longestOfEnds 6 = .ok (.getfield 7, 3) := dk_180 0 7 (dk_at dksX5_longestOfEnds_0 6 rfl rfl)
theorem dX5_longestOfEnds_9 : decode cX5_longestOfEnds 9 = .ok (.iconst 0, 1) := dk_3 (dk_at dksX5_longestOfEnds_0 9 rfl rfl)
theorem dX5_longestOfEnds_10 : decode cX5_longestOfEnds 10 = .ok (.iaload, 1) := dk_46 (dk_at dksX5_longestOfEnds_0 10 rfl rfl)
theorem dX5_longestOfEnds_11 : decode cX5_longestOfEnds 11 = .ok (.if_icmp .ge 66, 3) := dk_162 0 66 (dk_at dksX5_longestOfEnds_0 11 rfl rfl)
theorem dX5_longestOfEnds_14 : decode cX5_longestOfEnds 14 = .ok (.aload_n 0, 1) := dk_42 (dk_at dksX5_longestOfEnds_0 14 rfl rfl)
theorem dX5_longestOfEnds_15 : decode cX5_longestOfEnds 15 = .ok (.iload_n 2, 1) := dk_28 (dk_at dksX5_longestOfEnds_0 15 rfl rfl)
theorem dX5_longestOfEnds_16 : decode cX5_longestOfEnds 16 = .ok (.invokevirtual 134, 3) := dk_182 0 134 (dk_at dksX5_longestOfEnds_0 16 rfl rfl)
theorem dX5_longestOfEnds_19 : decode cX5_longestOfEnds 19 = .ok (.aload_n 0, 1) := dk_42 (dk_at dksX5_longestOfEnds_0 19 rfl rfl)
theorem dX5_longestOfEnds_20 : decode cX5_longestOfEnds 20 = .ok (.getfield 7, 3) := dk_180 0 7 (dk_at dksX5_longestOfEnds_0 20 rfl rfl)
theorem dX5_longestOfEnds_23 : decode cX5_longestOfEnds 23 = .ok (.iconst 1, 1) := dk_4 (dk_at dksX5_longestOfEnds_0 23 rfl rfl)
theorem dX5_longestOfEnds_24 : decode cX5_longestOfEnds 24 = .ok (.iaload, 1) := dk_46 (dk_at dksX5_longestOfEnds_1 0 rfl rfl)
theorem dX5_longestOfEnds_25 : decode cX5_longestOfEnds 25 = .ok (.iconst 1, 1) := dk_4 (dk_at dksX5_longestOfEnds_1 1 rfl rfl)
theorem dX5_longestOfEnds_26 : decode cX5_longestOfEnds 26 = .ok (.invokestatic 138, 3) := dk_184 0 138 (dk_at dksX5_longestOfEnds_1 2 rfl rfl)
theorem dX5_longestOfEnds_29 : decode cX5_longestOfEnds 29 = .ok (.istore_n 3, 1) := dk_62 (dk_at dksX5_longestOfEnds_1 5 rfl rfl)
theorem dX5_longestOfEnds_30 : decode cX5_longestOfEnds 30 = .ok (.aload_n 0, 1) := dk_42 (dk_at dksX5_longestOfEnds_1 6 rfl rfl)
theorem dX5_longestOfEnds_31 : decode cX5_longestOfEnds 31 = .ok (.iload_n 2, 1) := dk_28 (dk_at dksX5_longestOfEnds_1 7 rfl rfl)
theorem dX5_longestOfEnds_32 : decode cX5_longestOfEnds 32 = .ok (.invokevirtual 134, 3) := dk_182 0 134 (dk_at dksX5_longestOfEnds_1 8 rfl rfl)
theorem dX5_longestOfEnds_35 : decode cX5_longestOfEnds 35 = .ok (.aload_n 0, 1) := dk_42 (dk_at dksX5_longestOfEnds_1 11 rfl rfl)
theorem dX5_longestOfEnds_36 : decode cX5_longestOfEnds 36 = .ok (.getfield 7, 3) := dk_180 0 7 (dk_at dksX5_longestOfEnds_1 12 rfl rfl)
theorem dX5_longestOfEnds_39 : decode cX5_longestOfEnds 39 = .ok (.iconst 1, 1) := dk_4 (dk_at dksX5_longestOfEnds_1 15 rfl rfl)
theorem dX5_longestOfEnds_40 : decode cX5_longestOfEnds 40 = .ok (.iaload, 1) := dk_46 (dk_at dksX5_longestOfEnds_1 16 rfl rfl)
theorem dX5_longestOfEnds_41 : decode cX5_longestOfEnds 41 = .ok (.iconst 0, 1) := dk_3 (dk_at dksX5_longestOfEnds_1 17 rfl rfl)
theorem dX5_longestOfEnds_42 : decode cX5_longestOfEnds 42 = .ok (.invokestatic 138, 3) := dk_184 0 138 (dk_at dksX5_longestOfEnds_1 18 rfl rfl)
theorem dX5_longestOfEnds_45 : decode cX5_longestOfEnds 45 = .ok (.istore 4, 2) := dk_54 4 (dk_at dksX5_longestOfEnds_1 21 rfl rfl)
theorem dX5_longestOfEnds_47 : decode cX5_longestOfEnds 47 = .ok (.iload_n 3, 1) := dk_29 (dk_at dksX5_longestOfEnds_1 23 rfl rfl)
theorem dX5_longestOfEnds_48 : decode cX5_longestOfEnds 48 = .ok (.iload_n 1, 1) := dk_27 (dk_at dksX5_longestOfEnds_2 0 rfl rfl)
theorem dX5_longestOfEnds_49 : decode cX5_longestOfEnds 49 = .ok (.if_icmp .le 7, 3) := dk_164 0 7 (dk_at dksX5_longestOfEnds_2 1 rfl rfl)
theorem dX5_longestOfEnds_52 : decode cX5_longestOfEnds 52 = .ok (.iload_n 3, 1) := dk_29 (dk_at dksX5_longestOfEnds_2 4 rfl rfl)
theorem dX5_longestOfEnds_53 : decode cX5_longestOfEnds 53 = .ok (.goto 4, 3) := dk_167 0 4 (dk_at dksX5_longestOfEnds_2 5 rfl rfl)
theorem dX5_longestOfEnds_56 : decode cX5_longestOfEnds 56 = .ok (.iload_n 1, 1) := dk_27 (dk_at dksX5_longestOfEnds_2 8 rfl rfl)
theorem dX5_longestOfEnds_57 : decode cX5_longestOfEnds 57 = .ok (.istore_n 1, 1) := dk_60 (dk_at dksX5_longestOfEnds_2 9 rfl rfl)
theorem dX5_longestOfEnds_58 : decode cX5_longestOfEnds 58 = .ok (.iload 4, 2) := dk_21 4 (dk_at dksX5_longestOfEnds_2 10 rfl rfl)
theorem dX5_longestOfEnds_60 : decode cX5_longestOfEnds 60 = .ok (.iload_n 1, 1) := dk_27 (dk_at dksX5_longestOfEnds_2 12 rfl rfl)
theorem dX5_longestOfEnds_61 : decode cX5_longestOfEnds 61 = .ok (.if_icmp .le 8, 3) := dk_164 0 8 (dk_at dksX5_longestOfEnds_2 13 rfl rfl)
theorem dX5_longestOfEnds_64 : decode cX5_longestOfEnds 64 = .ok (.iload 4, 2) := dk_21 4 (dk_at dksX5_longestOfEnds_2 16 rfl rfl)
theorem dX5_longestOfEnds_66 : decode cX5_longestOfEnds 66 = .ok (.goto 4, 3) := dk_167 0 4 (dk_at dksX5_longestOfEnds_2 18 rfl rfl)
theorem dX5_longestOfEnds_69 : decode cX5_longestOfEnds 69 = .ok (.iload_n 1, 1) := dk_27 (dk_at dksX5_longestOfEnds_2 21 rfl rfl)
theorem dX5_longestOfEnds_70 : decode cX5_longestOfEnds 70 = .ok (.istore_n 1, 1) := dk_60 (dk_at dksX5_longestOfEnds_2 22 rfl rfl)
theorem dX5_longestOfEnds_71 : decode cX5_longestOfEnds 71 = .ok (.iinc 2 1, 3) := dk_132 2 1 (dk_at dksX5_longestOfEnds_3 0 rfl rfl)
theorem dX5_longestOfEnds_74 : decode cX5_longestOfEnds 74 = .ok (.goto (-70), 3) := dk_167 255 186 (dk_at dksX5_longestOfEnds_3 3 rfl rfl)
theorem dX5_longestOfEnds_77 : decode cX5_longestOfEnds 77 = .ok (.iload_n 1, 1) := dk_27 (dk_at dksX5_longestOfEnds_3 6 rfl rfl)
theorem dX5_longestOfEnds_78 : decode cX5_longestOfEnds 78 = .ok (.ireturn, 1) := dk_172 (dk_at dksX5_longestOfEnds_3 7 rfl rfl)
abbrev cX5_repeatOfEnds : ByteArray := prog_15_method_69_code
def yX5_repeatOfEnds : MethodName := ⟨RX5, "repeatOfEnds", "()I"⟩
def dkwX5_repeatOfEnds_2 : List UInt8 := [61, 132, 3, 1, 167, 255, 216, 27, 28, 153, 0, 7, 3, 167, 0, 4, 4, 96, 60, 167, 255, 193, 27, 172]
abbrev dktX5_repeatOfEnds_2 : List UInt8 := dkwX5_repeatOfEnds_2 ++ []
def dkwX5_repeatOfEnds_1 : List UInt8 := [28, 153, 0, 22, 42, 29, 182, 0, 134, 42, 29, 27, 96, 182, 0, 134, 160, 0, 7, 4, 167, 0, 4, 3]
abbrev dktX5_repeatOfEnds_1 : List UInt8 := dkwX5_repeatOfEnds_1 ++ dktX5_repeatOfEnds_2
def dkwX5_repeatOfEnds_0 : List UInt8 := [4, 60, 3, 61, 28, 154, 0, 65, 4, 61, 3, 62, 29, 27, 96, 42, 180, 0, 7, 3, 46, 162, 0, 34]
abbrev dktX5_repeatOfEnds_0 : List UInt8 := dkwX5_repeatOfEnds_0 ++ dktX5_repeatOfEnds_1
theorem dksX5_repeatOfEnds_0 : cX5_repeatOfEnds.data.toList.drop 0 = dktX5_repeatOfEnds_0 := by decide +kernel
theorem dksX5_repeatOfEnds_1 : cX5_repeatOfEnds.data.toList.drop 24 = dktX5_repeatOfEnds_1 := dk_seg dksX5_repeatOfEnds_0 24 rfl rfl
theorem dksX5_repeatOfEnds_2 : cX5_repeatOfEnds.data.toList.drop 48 = dktX5_repeatOfEnds_2 := dk_seg dksX5_repeatOfEnds_1 24 rfl rfl
theorem dX5_repeatOfEnds_0 : decode cX5_repeatOfEnds 0 = .ok (.iconst 1, 1) := dk_4 (dk_at dksX5_repeatOfEnds_0 0 rfl rfl)
theorem dX5_repeatOfEnds_1 : decode cX5_repeatOfEnds 1 = .ok (.istore_n 1, 1) := dk_60 (dk_at dksX5_repeatOfEnds_0 1 rfl rfl)
theorem dX5_repeatOfEnds_2 : decode cX5_repeatOfEnds 2 = .ok (.iconst 0, 1) := dk_3 (dk_at dksX5_repeatOfEnds_0 2 rfl rfl)
theorem dX5_repeatOfEnds_3 : decode cX5_repeatOfEnds 3 = .ok (.istore_n 2, 1) := dk_61 (dk_at dksX5_repeatOfEnds_0 3 rfl rfl)
theorem dX5_repeatOfEnds_4 : decode cX5_repeatOfEnds 4 = .ok (.iload_n 2, 1) := dk_28 (dk_at dksX5_repeatOfEnds_0 4 rfl rfl)
theorem dX5_repeatOfEnds_5 : decode cX5_repeatOfEnds 5 = .ok (.ifCond .ne 65, 3) := dk_154 0 65 (dk_at dksX5_repeatOfEnds_0 5 rfl rfl)
theorem dX5_repeatOfEnds_8 : decode cX5_repeatOfEnds 8 = .ok (.iconst 1, 1) := dk_4 (dk_at dksX5_repeatOfEnds_0 8 rfl rfl)
theorem dX5_repeatOfEnds_9 : decode cX5_repeatOfEnds 9 = .ok (.istore_n 2, 1) := dk_61 (dk_at dksX5_repeatOfEnds_0 9 rfl rfl)
theorem dX5_repeatOfEnds_10 : decode cX5_repeatOfEnds 10 = .ok (.iconst 0, 1) := dk_3 (dk_at dksX5_repeatOfEnds_0 10 rfl rfl)
theorem dX5_repeatOfEnds_11 : decode cX5_repeatOfEnds 11 = .ok (.istore_n 3, 1) := dk_62 (dk_at dksX5_repeatOfEnds_0 11 rfl rfl)
theorem dX5_repeatOfEnds_12 : decode cX5_repeatOfEnds 12 = .ok (.iload_n 3, 1) := dk_29 (dk_at dksX5_repeatOfEnds_0 12 rfl rfl)
theorem dX5_repeatOfEnds_13 : decode cX5_repeatOfEnds 13 = .ok (.iload_n 1, 1) := dk_27 (dk_at dksX5_repeatOfEnds_0 13 rfl rfl)
theorem dX5_repeatOfEnds_14 : decode cX5_repeatOfEnds 14 = .ok (.iadd, 1) := dk_96 (dk_at dksX5_repeatOfEnds_0 14 rfl rfl)
theorem dX5_repeatOfEnds_15 : decode cX5_repeatOfEnds 15 = .ok (.aload_n 0, 1) := dk_42 (dk_at dksX5_repeatOfEnds_0 15 rfl rfl)
theorem dX5_repeatOfEnds_16 : decode cX5_repeatOfEnds 16 = .ok (.getfield 7, 3) := dk_180 0 7 (dk_at dksX5_repeatOfEnds_0 16 rfl rfl)
theorem dX5_repeatOfEnds_19 : decode cX5_repeatOfEnds 19 = .ok (.iconst 0, 1) := dk_3 (dk_at dksX5_repeatOfEnds_0 19 rfl rfl)
theorem dX5_repeatOfEnds_20 : decode cX5_repeatOfEnds 20 = .ok (.iaload, 1) := dk_46 (dk_at dksX5_repeatOfEnds_0 20 rfl rfl)
theorem dX5_repeatOfEnds_21 : decode cX5_repeatOfEnds 21 = .ok (.if_icmp .ge 34, 3) := dk_162 0 34 (dk_at dksX5_repeatOfEnds_0 21 rfl rfl)
theorem dX5_repeatOfEnds_24 : decode cX5_repeatOfEnds 24 = .ok (.iload_n 2, 1) := dk_28 (dk_at dksX5_repeatOfEnds_1 0 rfl rfl)
theorem dX5_repeatOfEnds_25 : decode cX5_repeatOfEnds 25 = .ok (.ifCond .eq 22, 3) := dk_153 0 22 (dk_at dksX5_repeatOfEnds_1 1 rfl rfl)
theorem dX5_repeatOfEnds_28 : decode cX5_repeatOfEnds 28 = .ok (.aload_n 0, 1) := dk_42 (dk_at dksX5_repeatOfEnds_1 4 rfl rfl)
theorem dX5_repeatOfEnds_29 : decode cX5_repeatOfEnds 29 = .ok (.iload_n 3, 1) := dk_29 (dk_at dksX5_repeatOfEnds_1 5 rfl rfl)
theorem dX5_repeatOfEnds_30 : decode cX5_repeatOfEnds 30 = .ok (.invokevirtual 134, 3) := dk_182 0 134 (dk_at dksX5_repeatOfEnds_1 6 rfl rfl)
theorem dX5_repeatOfEnds_33 : decode cX5_repeatOfEnds 33 = .ok (.aload_n 0, 1) := dk_42 (dk_at dksX5_repeatOfEnds_1 9 rfl rfl)
theorem dX5_repeatOfEnds_34 : decode cX5_repeatOfEnds 34 = .ok (.iload_n 3, 1) := dk_29 (dk_at dksX5_repeatOfEnds_1 10 rfl rfl)
theorem dX5_repeatOfEnds_35 : decode cX5_repeatOfEnds 35 = .ok (.iload_n 1, 1) := dk_27 (dk_at dksX5_repeatOfEnds_1 11 rfl rfl)
theorem dX5_repeatOfEnds_36 : decode cX5_repeatOfEnds 36 = .ok (.iadd, 1) := dk_96 (dk_at dksX5_repeatOfEnds_1 12 rfl rfl)
theorem dX5_repeatOfEnds_37 : decode cX5_repeatOfEnds 37 = .ok (.invokevirtual 134, 3) := dk_182 0 134 (dk_at dksX5_repeatOfEnds_1 13 rfl rfl)
theorem dX5_repeatOfEnds_40 : decode cX5_repeatOfEnds 40 = .ok (.if_icmp .ne 7, 3) := dk_160 0 7 (dk_at dksX5_repeatOfEnds_1 16 rfl rfl)
theorem dX5_repeatOfEnds_43 : decode cX5_repeatOfEnds 43 = .ok (.iconst 1, 1) := dk_4 (dk_at dksX5_repeatOfEnds_1 19 rfl rfl)
theorem dX5_repeatOfEnds_44 : decode cX5_repeatOfEnds 44 = .ok (.goto 4, 3) := dk_167 0 4 (dk_at dksX5_repeatOfEnds_1 20 rfl rfl)
theorem dX5_repeatOfEnds_47 : decode cX5_repeatOfEnds 47 = .ok (.iconst 0, 1) := dk_3 (dk_at dksX5_repeatOfEnds_1 23 rfl rfl)
theorem dX5_repeatOfEnds_48 : decode cX5_repeatOfEnds 48 = .ok (.istore_n 2, 1) := dk_61 (dk_at dksX5_repeatOfEnds_2 0 rfl rfl)
theorem dX5_repeatOfEnds_49 : decode cX5_repeatOfEnds 49 = .ok (.iinc 3 1, 3) := dk_132 3 1 (dk_at dksX5_repeatOfEnds_2 1 rfl rfl)
theorem dX5_repeatOfEnds_52 : decode cX5_repeatOfEnds 52 = .ok (.goto (-40), 3) := dk_167 255 216 (dk_at dksX5_repeatOfEnds_2 4 rfl rfl)
theorem dX5_repeatOfEnds_55 : decode cX5_repeatOfEnds 55 = .ok (.iload_n 1, 1) := dk_27 (dk_at dksX5_repeatOfEnds_2 7 rfl rfl)
theorem dX5_repeatOfEnds_56 : decode cX5_repeatOfEnds 56 = .ok (.iload_n 2, 1) := dk_28 (dk_at dksX5_repeatOfEnds_2 8 rfl rfl)
theorem dX5_repeatOfEnds_57 : decode cX5_repeatOfEnds 57 = .ok (.ifCond .eq 7, 3) := dk_153 0 7 (dk_at dksX5_repeatOfEnds_2 9 rfl rfl)
theorem dX5_repeatOfEnds_60 : decode cX5_repeatOfEnds 60 = .ok (.iconst 0, 1) := dk_3 (dk_at dksX5_repeatOfEnds_2 12 rfl rfl)
theorem dX5_repeatOfEnds_61 : decode cX5_repeatOfEnds 61 = .ok (.goto 4, 3) := dk_167 0 4 (dk_at dksX5_repeatOfEnds_2 13 rfl rfl)
theorem dX5_repeatOfEnds_64 : decode cX5_repeatOfEnds 64 = .ok (.iconst 1, 1) := dk_4 (dk_at dksX5_repeatOfEnds_2 16 rfl rfl)
theorem dX5_repeatOfEnds_65 : decode cX5_repeatOfEnds 65 = .ok (.iadd, 1) := dk_96 (dk_at dksX5_repeatOfEnds_2 17 rfl rfl)
theorem dX5_repeatOfEnds_66 : decode cX5_repeatOfEnds 66 = .ok (.istore_n 1, 1) := dk_60 (dk_at dksX5_repeatOfEnds_2 18 rfl rfl)
theorem dX5_repeatOfEnds_67 : decode cX5_repeatOfEnds 67 = .ok (.goto (-63), 3) := dk_167 255 193 (dk_at dksX5_repeatOfEnds_2 19 rfl rfl)
theorem dX5_repeatOfEnds_70 : decode cX5_repeatOfEnds 70 = .ok (.iload_n 1, 1) := dk_27 (dk_at dksX5_repeatOfEnds_2 22 rfl rfl)
theorem dX5_repeatOfEnds_71 : decode cX5_repeatOfEnds 71 = .ok (.ireturn, 1) := dk_172 (dk_at dksX5_repeatOfEnds_2 23 rfl rfl)
abbrev cX5_repeatOfPicks : ByteArray := prog_15_method_70_code
def yX5_repeatOfPicks : MethodName := ⟨RX5, "repeatOfPicks", "()I"⟩
def dkwX5_repeatOfPicks_2 : List UInt8 := [61, 132, 3, 1, 167, 255, 216, 27, 28, 153, 0, 7, 3, 167, 0, 4, 4, 96, 60, 167, 255, 193, 27, 172]
abbrev dktX5_repeatOfPicks_2 : List UInt8 := dkwX5_repeatOfPicks_2 ++ []
def dkwX5_repeatOfPicks_1 : List UInt8 := [28, 153, 0, 22, 42, 29, 182, 0, 145, 42, 29, 27, 96, 182, 0, 145, 160, 0, 7, 4, 167, 0, 4, 3]
abbrev dktX5_repeatOfPicks_1 : List UInt8 := dkwX5_repeatOfPicks_1 ++ dktX5_repeatOfPicks_2
def dkwX5_repeatOfPicks_0 : List UInt8 := [4, 60, 3, 61, 28, 154, 0, 65, 4, 61, 3, 62, 29, 27, 96, 42, 180, 0, 7, 4, 46, 162, 0, 34]
abbrev dktX5_repeatOfPicks_0 : List UInt8 := dkwX5_repeatOfPicks_0 ++ dktX5_repeatOfPicks_1
theorem dksX5_repeatOfPicks_0 : cX5_repeatOfPicks.data.toList.drop 0 = dktX5_repeatOfPicks_0 := by decide +kernel
theorem dksX5_repeatOfPicks_1 : cX5_repeatOfPicks.data.toList.drop 24 = dktX5_repeatOfPicks_1 := dk_seg dksX5_repeatOfPicks_0 24 rfl rfl
theorem dksX5_repeatOfPicks_2 : cX5_repeatOfPicks.data.toList.drop 48 = dktX5_repeatOfPicks_2 := dk_seg dksX5_repeatOfPicks_1 24 rfl rfl
theorem dX5_repeatOfPicks_0 : decode cX5_repeatOfPicks 0 = .ok (.iconst 1, 1) := dk_4 (dk_at dksX5_repeatOfPicks_0 0 rfl rfl)
theorem dX5_repeatOfPicks_1 : decode cX5_repeatOfPicks 1 = .ok (.istore_n 1, 1) := dk_60 (dk_at dksX5_repeatOfPicks_0 1 rfl rfl)
theorem dX5_repeatOfPicks_2 : decode cX5_repeatOfPicks 2 = .ok (.iconst 0, 1) := dk_3 (dk_at dksX5_repeatOfPicks_0 2 rfl rfl)
theorem dX5_repeatOfPicks_3 : decode cX5_repeatOfPicks 3 = .ok (.istore_n 2, 1) := dk_61 (dk_at dksX5_repeatOfPicks_0 3 rfl rfl)
theorem dX5_repeatOfPicks_4 : decode cX5_repeatOfPicks 4 = .ok (.iload_n 2, 1) := dk_28 (dk_at dksX5_repeatOfPicks_0 4 rfl rfl)
theorem dX5_repeatOfPicks_5 : decode cX5_repeatOfPicks 5 = .ok (.ifCond .ne 65, 3) := dk_154 0 65 (dk_at dksX5_repeatOfPicks_0 5 rfl rfl)
theorem dX5_repeatOfPicks_8 : decode cX5_repeatOfPicks 8 = .ok (.iconst 1, 1) := dk_4 (dk_at dksX5_repeatOfPicks_0 8 rfl rfl)
theorem dX5_repeatOfPicks_9 : decode cX5_repeatOfPicks 9 = .ok (.istore_n 2, 1) := dk_61 (dk_at dksX5_repeatOfPicks_0 9 rfl rfl)
theorem dX5_repeatOfPicks_10 : decode cX5_repeatOfPicks 10 = .ok (.iconst 0, 1) := dk_3 (dk_at dksX5_repeatOfPicks_0 10 rfl rfl)
theorem dX5_repeatOfPicks_11 : decode cX5_repeatOfPicks 11 = .ok (.istore_n 3, 1) := dk_62 (dk_at dksX5_repeatOfPicks_0 11 rfl rfl)
theorem dX5_repeatOfPicks_12 : decode cX5_repeatOfPicks 12 = .ok (.iload_n 3, 1) := dk_29 (dk_at dksX5_repeatOfPicks_0 12 rfl rfl)
theorem dX5_repeatOfPicks_13 : decode cX5_repeatOfPicks 13 = .ok (.iload_n 1, 1) := dk_27 (dk_at dksX5_repeatOfPicks_0 13 rfl rfl)
theorem dX5_repeatOfPicks_14 : decode cX5_repeatOfPicks 14 = .ok (.iadd, 1) := dk_96 (dk_at dksX5_repeatOfPicks_0 14 rfl rfl)
theorem dX5_repeatOfPicks_15 : decode cX5_repeatOfPicks 15 = .ok (.aload_n 0, 1) := dk_42 (dk_at dksX5_repeatOfPicks_0 15 rfl rfl)
theorem dX5_repeatOfPicks_16 : decode cX5_repeatOfPicks 16 = .ok (.getfield 7, 3) := dk_180 0 7 (dk_at dksX5_repeatOfPicks_0 16 rfl rfl)
theorem dX5_repeatOfPicks_19 : decode cX5_repeatOfPicks 19 = .ok (.iconst 1, 1) := dk_4 (dk_at dksX5_repeatOfPicks_0 19 rfl rfl)
theorem dX5_repeatOfPicks_20 : decode cX5_repeatOfPicks 20 = .ok (.iaload, 1) := dk_46 (dk_at dksX5_repeatOfPicks_0 20 rfl rfl)
theorem dX5_repeatOfPicks_21 : decode cX5_repeatOfPicks 21 = .ok (.if_icmp .ge 34, 3) := dk_162 0 34 (dk_at dksX5_repeatOfPicks_0 21 rfl rfl)
theorem dX5_repeatOfPicks_24 : decode cX5_repeatOfPicks 24 = .ok (.iload_n 2, 1) := dk_28 (dk_at dksX5_repeatOfPicks_1 0 rfl rfl)
theorem dX5_repeatOfPicks_25 : decode cX5_repeatOfPicks 25 = .ok (.ifCond .eq 22, 3) := dk_153 0 22 (dk_at dksX5_repeatOfPicks_1 1 rfl rfl)
theorem dX5_repeatOfPicks_28 : decode cX5_repeatOfPicks 28 = .ok (.aload_n 0, 1) := dk_42 (dk_at dksX5_repeatOfPicks_1 4 rfl rfl)
theorem dX5_repeatOfPicks_29 : decode cX5_repeatOfPicks 29 = .ok (.iload_n 3, 1) := dk_29 (dk_at dksX5_repeatOfPicks_1 5 rfl rfl)
theorem dX5_repeatOfPicks_30 : decode cX5_repeatOfPicks 30 = .ok (.invokevirtual 145, 3) := dk_182 0 145 (dk_at dksX5_repeatOfPicks_1 6 rfl rfl)
theorem dX5_repeatOfPicks_33 : decode cX5_repeatOfPicks 33 = .ok (.aload_n 0, 1) := dk_42 (dk_at dksX5_repeatOfPicks_1 9 rfl rfl)
theorem dX5_repeatOfPicks_34 : decode cX5_repeatOfPicks 34 = .ok (.iload_n 3, 1) := dk_29 (dk_at dksX5_repeatOfPicks_1 10 rfl rfl)
theorem dX5_repeatOfPicks_35 : decode cX5_repeatOfPicks 35 = .ok (.iload_n 1, 1) := dk_27 (dk_at dksX5_repeatOfPicks_1 11 rfl rfl)
theorem dX5_repeatOfPicks_36 : decode cX5_repeatOfPicks 36 = .ok (.iadd, 1) := dk_96 (dk_at dksX5_repeatOfPicks_1 12 rfl rfl)
theorem dX5_repeatOfPicks_37 : decode cX5_repeatOfPicks 37 = .ok (.invokevirtual 145, 3) := dk_182 0 145 (dk_at dksX5_repeatOfPicks_1 13 rfl rfl)
theorem dX5_repeatOfPicks_40 : decode cX5_repeatOfPicks 40 = .ok (.if_icmp .ne 7, 3) := dk_160 0 7 (dk_at dksX5_repeatOfPicks_1 16 rfl rfl)
theorem dX5_repeatOfPicks_43 : decode cX5_repeatOfPicks 43 = .ok (.iconst 1, 1) := dk_4 (dk_at dksX5_repeatOfPicks_1 19 rfl rfl)
theorem dX5_repeatOfPicks_44 : decode cX5_repeatOfPicks 44 = .ok (.goto 4, 3) := dk_167 0 4 (dk_at dksX5_repeatOfPicks_1 20 rfl rfl)
theorem dX5_repeatOfPicks_47 : decode cX5_repeatOfPicks 47 = .ok (.iconst 0, 1) := dk_3 (dk_at dksX5_repeatOfPicks_1 23 rfl rfl)
theorem dX5_repeatOfPicks_48 : decode cX5_repeatOfPicks 48 = .ok (.istore_n 2, 1) := dk_61 (dk_at dksX5_repeatOfPicks_2 0 rfl rfl)
theorem dX5_repeatOfPicks_49 : decode cX5_repeatOfPicks 49 = .ok (.iinc 3 1, 3) := dk_132 3 1 (dk_at dksX5_repeatOfPicks_2 1 rfl rfl)
theorem dX5_repeatOfPicks_52 : decode cX5_repeatOfPicks 52 = .ok (.goto (-40), 3) := dk_167 255 216 (dk_at dksX5_repeatOfPicks_2 4 rfl rfl)
theorem dX5_repeatOfPicks_55 : decode cX5_repeatOfPicks 55 = .ok (.iload_n 1, 1) := dk_27 (dk_at dksX5_repeatOfPicks_2 7 rfl rfl)
theorem dX5_repeatOfPicks_56 : decode cX5_repeatOfPicks 56 = .ok (.iload_n 2, 1) := dk_28 (dk_at dksX5_repeatOfPicks_2 8 rfl rfl)
theorem dX5_repeatOfPicks_57 : decode cX5_repeatOfPicks 57 = .ok (.ifCond .eq 7, 3) := dk_153 0 7 (dk_at dksX5_repeatOfPicks_2 9 rfl rfl)
theorem dX5_repeatOfPicks_60 : decode cX5_repeatOfPicks 60 = .ok (.iconst 0, 1) := dk_3 (dk_at dksX5_repeatOfPicks_2 12 rfl rfl)
theorem dX5_repeatOfPicks_61 : decode cX5_repeatOfPicks 61 = .ok (.goto 4, 3) := dk_167 0 4 (dk_at dksX5_repeatOfPicks_2 13 rfl rfl)
theorem dX5_repeatOfPicks_64 : decode cX5_repeatOfPicks 64 = .ok (.iconst 1, 1) := dk_4 (dk_at dksX5_repeatOfPicks_2 16 rfl rfl)
theorem dX5_repeatOfPicks_65 : decode cX5_repeatOfPicks 65 = .ok (.iadd, 1) := dk_96 (dk_at dksX5_repeatOfPicks_2 17 rfl rfl)
theorem dX5_repeatOfPicks_66 : decode cX5_repeatOfPicks 66 = .ok (.istore_n 1, 1) := dk_60 (dk_at dksX5_repeatOfPicks_2 18 rfl rfl)
theorem dX5_repeatOfPicks_67 : decode cX5_repeatOfPicks 67 = .ok (.goto (-63), 3) := dk_167 255 193 (dk_at dksX5_repeatOfPicks_2 19 rfl rfl)
theorem dX5_repeatOfPicks_70 : decode cX5_repeatOfPicks 70 = .ok (.iload_n 1, 1) := dk_27 (dk_at dksX5_repeatOfPicks_2 22 rfl rfl)
theorem dX5_repeatOfPicks_71 : decode cX5_repeatOfPicks 71 = .ok (.ireturn, 1) := dk_172 (dk_at dksX5_repeatOfPicks_2 23 rfl rfl)
abbrev cX5_allStitches : ByteArray := prog_15_method_71_code
def yX5_allStitches : MethodName := ⟨RX5, "allStitches", "()I"⟩
def dkwX5_allStitches_1 : List UInt8 := [132, 2, 1, 167, 255, 235, 27, 172]
abbrev dktX5_allStitches_1 : List UInt8 := dkwX5_allStitches_1 ++ []
def dkwX5_allStitches_0 : List UInt8 := [3, 60, 3, 61, 28, 42, 180, 0, 7, 4, 46, 162, 0, 17, 27, 42, 28, 182, 0, 148, 96, 60]
abbrev dktX5_allStitches_0 : List UInt8 := dkwX5_allStitches_0 ++ dktX5_allStitches_1
theorem dksX5_allStitches_0 : cX5_allStitches.data.toList.drop 0 = dktX5_allStitches_0 := by decide +kernel
theorem dksX5_allStitches_1 : cX5_allStitches.data.toList.drop 22 = dktX5_allStitches_1 := dk_seg dksX5_allStitches_0 22 rfl rfl
theorem dX5_allStitches_0 : decode cX5_allStitches 0 = .ok (.iconst 0, 1) := dk_3 (dk_at dksX5_allStitches_0 0 rfl rfl)
theorem dX5_allStitches_1 : decode cX5_allStitches 1 = .ok (.istore_n 1, 1) := dk_60 (dk_at dksX5_allStitches_0 1 rfl rfl)
theorem dX5_allStitches_2 : decode cX5_allStitches 2 = .ok (.iconst 0, 1) := dk_3 (dk_at dksX5_allStitches_0 2 rfl rfl)
theorem dX5_allStitches_3 : decode cX5_allStitches 3 = .ok (.istore_n 2, 1) := dk_61 (dk_at dksX5_allStitches_0 3 rfl rfl)
theorem dX5_allStitches_4 : decode cX5_allStitches 4 = .ok (.iload_n 2, 1) := dk_28 (dk_at dksX5_allStitches_0 4 rfl rfl)
theorem dX5_allStitches_5 : decode cX5_allStitches 5 = .ok (.aload_n 0, 1) := dk_42 (dk_at dksX5_allStitches_0 5 rfl rfl)
theorem dX5_allStitches_6 : decode cX5_allStitches 6 = .ok (.getfield 7, 3) := dk_180 0 7 (dk_at dksX5_allStitches_0 6 rfl rfl)
theorem dX5_allStitches_9 : decode cX5_allStitches 9 = .ok (.iconst 1, 1) := dk_4 (dk_at dksX5_allStitches_0 9 rfl rfl)
theorem dX5_allStitches_10 : decode cX5_allStitches 10 = .ok (.iaload, 1) := dk_46 (dk_at dksX5_allStitches_0 10 rfl rfl)
theorem dX5_allStitches_11 : decode cX5_allStitches 11 = .ok (.if_icmp .ge 17, 3) := dk_162 0 17 (dk_at dksX5_allStitches_0 11 rfl rfl)
theorem dX5_allStitches_14 : decode cX5_allStitches 14 = .ok (.iload_n 1, 1) := dk_27 (dk_at dksX5_allStitches_0 14 rfl rfl)
theorem dX5_allStitches_15 : decode cX5_allStitches 15 = .ok (.aload_n 0, 1) := dk_42 (dk_at dksX5_allStitches_0 15 rfl rfl)
theorem dX5_allStitches_16 : decode cX5_allStitches 16 = .ok (.iload_n 2, 1) := dk_28 (dk_at dksX5_allStitches_0 16 rfl rfl)
theorem dX5_allStitches_17 : decode cX5_allStitches 17 = .ok (.invokevirtual 148, 3) := dk_182 0 148 (dk_at dksX5_allStitches_0 17 rfl rfl)
theorem dX5_allStitches_20 : decode cX5_allStitches 20 = .ok (.iadd, 1) := dk_96 (dk_at dksX5_allStitches_0 20 rfl rfl)
theorem dX5_allStitches_21 : decode cX5_allStitches 21 = .ok (.istore_n 1, 1) := dk_60 (dk_at dksX5_allStitches_0 21 rfl rfl)
theorem dX5_allStitches_22 : decode cX5_allStitches 22 = .ok (.iinc 2 1, 3) := dk_132 2 1 (dk_at dksX5_allStitches_1 0 rfl rfl)
theorem dX5_allStitches_25 : decode cX5_allStitches 25 = .ok (.goto (-21), 3) := dk_167 255 235 (dk_at dksX5_allStitches_1 3 rfl rfl)
theorem dX5_allStitches_28 : decode cX5_allStitches 28 = .ok (.iload_n 1, 1) := dk_27 (dk_at dksX5_allStitches_1 6 rfl rfl)
theorem dX5_allStitches_29 : decode cX5_allStitches 29 = .ok (.ireturn, 1) := dk_172 (dk_at dksX5_allStitches_1 7 rfl rfl)
abbrev cX5_alike : ByteArray := prog_15_method_73_code
def yX5_alike : MethodName := ⟨RX5, "alike", "()I"⟩
def dkwX5_alike_2 : List UInt8 := [167, 255, 213, 27, 172]
abbrev dktX5_alike_2 : List UInt8 := dkwX5_alike_2 ++ []
def dkwX5_alike_1 : List UInt8 := [29, 182, 0, 213, 153, 0, 7, 4, 167, 0, 4, 3, 96, 60, 132, 3, 1, 167, 255, 231, 132, 2, 1]
abbrev dktX5_alike_1 : List UInt8 := dkwX5_alike_1 ++ dktX5_alike_2
def dkwX5_alike_0 : List UInt8 := [3, 60, 3, 61, 28, 42, 180, 0, 7, 5, 46, 162, 0, 39, 3, 62, 29, 28, 162, 0, 26, 27, 42, 28]
abbrev dktX5_alike_0 : List UInt8 := dkwX5_alike_0 ++ dktX5_alike_1
theorem dksX5_alike_0 : cX5_alike.data.toList.drop 0 = dktX5_alike_0 := by decide +kernel
theorem dksX5_alike_1 : cX5_alike.data.toList.drop 24 = dktX5_alike_1 := dk_seg dksX5_alike_0 24 rfl rfl
theorem dksX5_alike_2 : cX5_alike.data.toList.drop 47 = dktX5_alike_2 := dk_seg dksX5_alike_1 23 rfl rfl
theorem dX5_alike_0 : decode cX5_alike 0 = .ok (.iconst 0, 1) := dk_3 (dk_at dksX5_alike_0 0 rfl rfl)
theorem dX5_alike_1 : decode cX5_alike 1 = .ok (.istore_n 1, 1) := dk_60 (dk_at dksX5_alike_0 1 rfl rfl)
theorem dX5_alike_2 : decode cX5_alike 2 = .ok (.iconst 0, 1) := dk_3 (dk_at dksX5_alike_0 2 rfl rfl)
theorem dX5_alike_3 : decode cX5_alike 3 = .ok (.istore_n 2, 1) := dk_61 (dk_at dksX5_alike_0 3 rfl rfl)
theorem dX5_alike_4 : decode cX5_alike 4 = .ok (.iload_n 2, 1) := dk_28 (dk_at dksX5_alike_0 4 rfl rfl)
theorem dX5_alike_5 : decode cX5_alike 5 = .ok (.aload_n 0, 1) := dk_42 (dk_at dksX5_alike_0 5 rfl rfl)
theorem dX5_alike_6 : decode cX5_alike 6 = .ok (.getfield 7, 3) := dk_180 0 7 (dk_at dksX5_alike_0 6 rfl rfl)
theorem dX5_alike_9 : decode cX5_alike 9 = .ok (.iconst 2, 1) := dk_5 (dk_at dksX5_alike_0 9 rfl rfl)
theorem dX5_alike_10 : decode cX5_alike 10 = .ok (.iaload, 1) := dk_46 (dk_at dksX5_alike_0 10 rfl rfl)
theorem dX5_alike_11 : decode cX5_alike 11 = .ok (.if_icmp .ge 39, 3) := dk_162 0 39 (dk_at dksX5_alike_0 11 rfl rfl)
theorem dX5_alike_14 : decode cX5_alike 14 = .ok (.iconst 0, 1) := dk_3 (dk_at dksX5_alike_0 14 rfl rfl)
theorem dX5_alike_15 : decode cX5_alike 15 = .ok (.istore_n 3, 1) := dk_62 (dk_at dksX5_alike_0 15 rfl rfl)
theorem dX5_alike_16 : decode cX5_alike 16 = .ok (.iload_n 3, 1) := dk_29 (dk_at dksX5_alike_0 16 rfl rfl)
theorem dX5_alike_17 : decode cX5_alike 17 = .ok (.iload_n 2, 1) := dk_28 (dk_at dksX5_alike_0 17 rfl rfl)
theorem dX5_alike_18 : decode cX5_alike 18 = .ok (.if_icmp .ge 26, 3) := dk_162 0 26 (dk_at dksX5_alike_0 18 rfl rfl)
theorem dX5_alike_21 : decode cX5_alike 21 = .ok (.iload_n 1, 1) := dk_27 (dk_at dksX5_alike_0 21 rfl rfl)
theorem dX5_alike_22 : decode cX5_alike 22 = .ok (.aload_n 0, 1) := dk_42 (dk_at dksX5_alike_0 22 rfl rfl)
theorem dX5_alike_23 : decode cX5_alike 23 = .ok (.iload_n 2, 1) := dk_28 (dk_at dksX5_alike_0 23 rfl rfl)
theorem dX5_alike_24 : decode cX5_alike 24 = .ok (.iload_n 3, 1) := dk_29 (dk_at dksX5_alike_1 0 rfl rfl)
theorem dX5_alike_25 : decode cX5_alike 25 = .ok (.invokevirtual 213, 3) := dk_182 0 213 (dk_at dksX5_alike_1 1 rfl rfl)
theorem dX5_alike_28 : decode cX5_alike 28 = .ok (.ifCond .eq 7, 3) := dk_153 0 7 (dk_at dksX5_alike_1 4 rfl rfl)
theorem dX5_alike_31 : decode cX5_alike 31 = .ok (.iconst 1, 1) := dk_4 (dk_at dksX5_alike_1 7 rfl rfl)
theorem dX5_alike_32 : decode cX5_alike 32 = .ok (.goto 4, 3) := dk_167 0 4 (dk_at dksX5_alike_1 8 rfl rfl)
theorem dX5_alike_35 : decode cX5_alike 35 = .ok (.iconst 0, 1) := dk_3 (dk_at dksX5_alike_1 11 rfl rfl)
theorem dX5_alike_36 : decode cX5_alike 36 = .ok (.iadd, 1) := dk_96 (dk_at dksX5_alike_1 12 rfl rfl)
theorem dX5_alike_37 : decode cX5_alike 37 = .ok (.istore_n 1, 1) := dk_60 (dk_at dksX5_alike_1 13 rfl rfl)
theorem dX5_alike_38 : decode cX5_alike 38 = .ok (.iinc 3 1, 3) := dk_132 3 1 (dk_at dksX5_alike_1 14 rfl rfl)
theorem dX5_alike_41 : decode cX5_alike 41 = .ok (.goto (-25), 3) := dk_167 255 231 (dk_at dksX5_alike_1 17 rfl rfl)
theorem dX5_alike_44 : decode cX5_alike 44 = .ok (.iinc 2 1, 3) := dk_132 2 1 (dk_at dksX5_alike_1 20 rfl rfl)
theorem dX5_alike_47 : decode cX5_alike 47 = .ok (.goto (-43), 3) := dk_167 255 213 (dk_at dksX5_alike_2 0 rfl rfl)
theorem dX5_alike_50 : decode cX5_alike 50 = .ok (.iload_n 1, 1) := dk_27 (dk_at dksX5_alike_2 3 rfl rfl)
theorem dX5_alike_51 : decode cX5_alike 51 = .ok (.ireturn, 1) := dk_172 (dk_at dksX5_alike_2 4 rfl rfl)
abbrev cX5_areAlike : ByteArray := prog_15_method_72_code
def yX5_areAlike : MethodName := ⟨RX5, "areAlike", "(II)Z"⟩
def dkwX5_areAlike_2 : List UInt8 := [160, 0, 7, 4, 167, 0, 4, 3, 62, 132, 4, 1, 167, 255, 201, 29, 172]
abbrev dktX5_areAlike_2 : List UInt8 := dkwX5_areAlike_2 ++ []
def dkwX5_areAlike_1 : List UInt8 := [16, 16, 21, 4, 96, 46, 27, 184, 0, 124, 42, 180, 0, 7, 16, 16, 21, 4, 96, 46, 28, 184, 0, 124]
abbrev dktX5_areAlike_1 : List UInt8 := dkwX5_areAlike_1 ++ dktX5_areAlike_2
def dkwX5_areAlike_0 : List UInt8 := [4, 62, 3, 54, 4, 21, 4, 42, 180, 0, 7, 6, 46, 162, 0, 50, 29, 153, 0, 38, 42, 180, 0, 7]
abbrev dktX5_areAlike_0 : List UInt8 := dkwX5_areAlike_0 ++ dktX5_areAlike_1
theorem dksX5_areAlike_0 : cX5_areAlike.data.toList.drop 0 = dktX5_areAlike_0 := by decide +kernel
theorem dksX5_areAlike_1 : cX5_areAlike.data.toList.drop 24 = dktX5_areAlike_1 := dk_seg dksX5_areAlike_0 24 rfl rfl
theorem dksX5_areAlike_2 : cX5_areAlike.data.toList.drop 48 = dktX5_areAlike_2 := dk_seg dksX5_areAlike_1 24 rfl rfl
theorem dX5_areAlike_0 : decode cX5_areAlike 0 = .ok (.iconst 1, 1) := dk_4 (dk_at dksX5_areAlike_0 0 rfl rfl)
theorem dX5_areAlike_1 : decode cX5_areAlike 1 = .ok (.istore_n 3, 1) := dk_62 (dk_at dksX5_areAlike_0 1 rfl rfl)
theorem dX5_areAlike_2 : decode cX5_areAlike 2 = .ok (.iconst 0, 1) := dk_3 (dk_at dksX5_areAlike_0 2 rfl rfl)
theorem dX5_areAlike_3 : decode cX5_areAlike 3 = .ok (.istore 4, 2) := dk_54 4 (dk_at dksX5_areAlike_0 3 rfl rfl)
theorem dX5_areAlike_5 : decode cX5_areAlike 5 = .ok (.iload 4, 2) := dk_21 4 (dk_at dksX5_areAlike_0 5 rfl rfl)
theorem dX5_areAlike_7 : decode cX5_areAlike 7 = .ok (.aload_n 0, 1) := dk_42 (dk_at dksX5_areAlike_0 7 rfl rfl)
theorem dX5_areAlike_8 : decode cX5_areAlike 8 = .ok (.getfield 7, 3) := dk_180 0 7 (dk_at dksX5_areAlike_0 8 rfl rfl)
theorem dX5_areAlike_11 : decode cX5_areAlike 11 = .ok (.iconst 3, 1) := dk_6 (dk_at dksX5_areAlike_0 11 rfl rfl)
theorem dX5_areAlike_12 : decode cX5_areAlike 12 = .ok (.iaload, 1) := dk_46 (dk_at dksX5_areAlike_0 12 rfl rfl)
theorem dX5_areAlike_13 : decode cX5_areAlike 13 = .ok (.if_icmp .ge 50, 3) := dk_162 0 50 (dk_at dksX5_areAlike_0 13 rfl rfl)
theorem dX5_areAlike_16 : decode cX5_areAlike 16 = .ok (.iload_n 3, 1) := dk_29 (dk_at dksX5_areAlike_0 16 rfl rfl)
theorem dX5_areAlike_17 : decode cX5_areAlike 17 = .ok (.ifCond .eq 38, 3) := dk_153 0 38 (dk_at dksX5_areAlike_0 17 rfl rfl)
theorem dX5_areAlike_20 : decode cX5_areAlike 20 = .ok (.aload_n 0, 1) := dk_42 (dk_at dksX5_areAlike_0 20 rfl rfl)
theorem dX5_areAlike_21 : decode cX5_areAlike 21 = .ok (.getfield 7, 3) := dk_180 0 7 (dk_at dksX5_areAlike_0 21 rfl rfl)
theorem dX5_areAlike_24 : decode cX5_areAlike 24 = .ok (.bipush 16, 2) := dk_16 16 (dk_at dksX5_areAlike_1 0 rfl rfl)
theorem dX5_areAlike_26 : decode cX5_areAlike 26 = .ok (.iload 4, 2) := dk_21 4 (dk_at dksX5_areAlike_1 2 rfl rfl)
theorem dX5_areAlike_28 : decode cX5_areAlike 28 = .ok (.iadd, 1) := dk_96 (dk_at dksX5_areAlike_1 4 rfl rfl)
theorem dX5_areAlike_29 : decode cX5_areAlike 29 = .ok (.iaload, 1) := dk_46 (dk_at dksX5_areAlike_1 5 rfl rfl)
theorem dX5_areAlike_30 : decode cX5_areAlike 30 = .ok (.iload_n 1, 1) := dk_27 (dk_at dksX5_areAlike_1 6 rfl rfl)
theorem dX5_areAlike_31 : decode cX5_areAlike 31 = .ok (.invokestatic 124, 3) := dk_184 0 124 (dk_at dksX5_areAlike_1 7 rfl rfl)
theorem dX5_areAlike_34 : decode cX5_areAlike 34 = .ok (.aload_n 0, 1) := dk_42 (dk_at dksX5_areAlike_1 10 rfl rfl)
theorem dX5_areAlike_35 : decode cX5_areAlike 35 = .ok (.getfield 7, 3) := dk_180 0 7 (dk_at dksX5_areAlike_1 11 rfl rfl)
theorem dX5_areAlike_38 : decode cX5_areAlike 38 = .ok (.bipush 16, 2) := dk_16 16 (dk_at dksX5_areAlike_1 14 rfl rfl)
theorem dX5_areAlike_40 : decode cX5_areAlike 40 = .ok (.iload 4, 2) := dk_21 4 (dk_at dksX5_areAlike_1 16 rfl rfl)
theorem dX5_areAlike_42 : decode cX5_areAlike 42 = .ok (.iadd, 1) := dk_96 (dk_at dksX5_areAlike_1 18 rfl rfl)
theorem dX5_areAlike_43 : decode cX5_areAlike 43 = .ok (.iaload, 1) := dk_46 (dk_at dksX5_areAlike_1 19 rfl rfl)
theorem dX5_areAlike_44 : decode cX5_areAlike 44 = .ok (.iload_n 2, 1) := dk_28 (dk_at dksX5_areAlike_1 20 rfl rfl)
theorem dX5_areAlike_45 : decode cX5_areAlike 45 = .ok (.invokestatic 124, 3) := dk_184 0 124 (dk_at dksX5_areAlike_1 21 rfl rfl)
theorem dX5_areAlike_48 : decode cX5_areAlike 48 = .ok (.if_icmp .ne 7, 3) := dk_160 0 7 (dk_at dksX5_areAlike_2 0 rfl rfl)
theorem dX5_areAlike_51 : decode cX5_areAlike 51 = .ok (.iconst 1, 1) := dk_4 (dk_at dksX5_areAlike_2 3 rfl rfl)
theorem dX5_areAlike_52 : decode cX5_areAlike 52 = .ok (.goto 4, 3) := dk_167 0 4 (dk_at dksX5_areAlike_2 4 rfl rfl)
theorem dX5_areAlike_55 : decode cX5_areAlike 55 = .ok (.iconst 0, 1) := dk_3 (dk_at dksX5_areAlike_2 7 rfl rfl)
theorem dX5_areAlike_56 : decode cX5_areAlike 56 = .ok (.istore_n 3, 1) := dk_62 (dk_at dksX5_areAlike_2 8 rfl rfl)
theorem dX5_areAlike_57 : decode cX5_areAlike 57 = .ok (.iinc 4 1, 3) := dk_132 4 1 (dk_at dksX5_areAlike_2 9 rfl rfl)
theorem dX5_areAlike_60 : decode cX5_areAlike 60 = .ok (.goto (-55), 3) := dk_167 255 201 (dk_at dksX5_areAlike_2 12 rfl rfl)
theorem dX5_areAlike_63 : decode cX5_areAlike 63 = .ok (.iload_n 3, 1) := dk_29 (dk_at dksX5_areAlike_2 15 rfl rfl)
theorem dX5_areAlike_64 : decode cX5_areAlike 64 = .ok (.ireturn, 1) := dk_172 (dk_at dksX5_areAlike_2 16 rfl rfl)
abbrev cX5_idle : ByteArray := prog_15_method_74_code
def yX5_idle : MethodName := ⟨RX5, "idle", "(III)I"⟩
def dkwX5_idle_1 : List UInt8 := [21, 5, 96, 46, 120, 2, 130, 126, 54, 4, 132, 5, 1, 167, 255, 229, 21, 4, 172]
abbrev dktX5_idle_1 : List UInt8 := dkwX5_idle_1 ++ []
def dkwX5_idle_0 : List UInt8 := [4, 27, 120, 4, 100, 54, 4, 3, 54, 5, 21, 5, 29, 162, 0, 27, 21, 4, 4, 42, 180, 0, 7, 28]
abbrev dktX5_idle_0 : List UInt8 := dkwX5_idle_0 ++ dktX5_idle_1
theorem dksX5_idle_0 : cX5_idle.data.toList.drop 0 = dktX5_idle_0 := by decide +kernel
theorem dksX5_idle_1 : cX5_idle.data.toList.drop 24 = dktX5_idle_1 := dk_seg dksX5_idle_0 24 rfl rfl
theorem dX5_idle_0 : decode cX5_idle 0 = .ok (.iconst 1, 1) := dk_4 (dk_at dksX5_idle_0 0 rfl rfl)
theorem dX5_idle_1 : decode cX5_idle 1 = .ok (.iload_n 1, 1) := dk_27 (dk_at dksX5_idle_0 1 rfl rfl)
theorem dX5_idle_2 : decode cX5_idle 2 = .ok (.ishl, 1) := dk_120 (dk_at dksX5_idle_0 2 rfl rfl)
theorem dX5_idle_3 : decode cX5_idle 3 = .ok (.iconst 1, 1) := dk_4 (dk_at dksX5_idle_0 3 rfl rfl)
theorem dX5_idle_4 : decode cX5_idle 4 = .ok (.isub, 1) := dk_100 (dk_at dksX5_idle_0 4 rfl rfl)
theorem dX5_idle_5 : decode cX5_idle 5 = .ok (.istore 4, 2) := dk_54 4 (dk_at dksX5_idle_0 5 rfl rfl)
theorem dX5_idle_7 : decode cX5_idle 7 = .ok (.iconst 0, 1) := dk_3 (dk_at dksX5_idle_0 7 rfl rfl)
theorem dX5_idle_8 : decode cX5_idle 8 = .ok (.istore 5, 2) := dk_54 5 (dk_at dksX5_idle_0 8 rfl rfl)
theorem dX5_idle_10 : decode cX5_idle 10 = .ok (.iload 5, 2) := dk_21 5 (dk_at dksX5_idle_0 10 rfl rfl)
theorem dX5_idle_12 : decode cX5_idle 12 = .ok (.iload_n 3, 1) := dk_29 (dk_at dksX5_idle_0 12 rfl rfl)
theorem dX5_idle_13 : decode cX5_idle 13 = .ok (.if_icmp .ge 27, 3) := dk_162 0 27 (dk_at dksX5_idle_0 13 rfl rfl)
theorem dX5_idle_16 : decode cX5_idle 16 = .ok (.iload 4, 2) := dk_21 4 (dk_at dksX5_idle_0 16 rfl rfl)
theorem dX5_idle_18 : decode cX5_idle 18 = .ok (.iconst 1, 1) := dk_4 (dk_at dksX5_idle_0 18 rfl rfl)
theorem dX5_idle_19 : decode cX5_idle 19 = .ok (.aload_n 0, 1) := dk_42 (dk_at dksX5_idle_0 19 rfl rfl)
theorem dX5_idle_20 : decode cX5_idle 20 = .ok (.getfield 7, 3) := dk_180 0 7 (dk_at dksX5_idle_0 20 rfl rfl)
theorem dX5_idle_23 : decode cX5_idle 23 = .ok (.iload_n 2, 1) := dk_28 (dk_at dksX5_idle_0 23 rfl rfl)
theorem dX5_idle_24 : decode cX5_idle 24 = .ok (.iload 5, 2) := dk_21 5 (dk_at dksX5_idle_1 0 rfl rfl)
theorem dX5_idle_26 : decode cX5_idle 26 = .ok (.iadd, 1) := dk_96 (dk_at dksX5_idle_1 2 rfl rfl)
theorem dX5_idle_27 : decode cX5_idle 27 = .ok (.iaload, 1) := dk_46 (dk_at dksX5_idle_1 3 rfl rfl)
theorem dX5_idle_28 : decode cX5_idle 28 = .ok (.ishl, 1) := dk_120 (dk_at dksX5_idle_1 4 rfl rfl)
theorem dX5_idle_29 : decode cX5_idle 29 = .ok (.iconst (-1), 1) := dk_2 (dk_at dksX5_idle_1 5 rfl rfl)
theorem dX5_idle_30 : decode cX5_idle 30 = .ok (.ixor, 1) := dk_130 (dk_at dksX5_idle_1 6 rfl rfl)
theorem dX5_idle_31 : decode cX5_idle 31 = .ok (.iand, 1) := dk_126 (dk_at dksX5_idle_1 7 rfl rfl)
theorem dX5_idle_32 : decode cX5_idle 32 = .ok (.istore 4, 2) := dk_54 4 (dk_at dksX5_idle_1 8 rfl rfl)
theorem dX5_idle_34 : decode cX5_idle 34 = .ok (.iinc 5 1, 3) := dk_132 5 1 (dk_at dksX5_idle_1 10 rfl rfl)
theorem dX5_idle_37 : decode cX5_idle 37 = .ok (.goto (-27), 3) := dk_167 255 229 (dk_at dksX5_idle_1 13 rfl rfl)
theorem dX5_idle_40 : decode cX5_idle 40 = .ok (.iload 4, 2) := dk_21 4 (dk_at dksX5_idle_1 16 rfl rfl)
theorem dX5_idle_42 : decode cX5_idle 42 = .ok (.ireturn, 1) := dk_172 (dk_at dksX5_idle_1 18 rfl rfl)
abbrev cX5_allUp : ByteArray := prog_15_method_75_code
def yX5_allUp : MethodName := ⟨RX5, "allUp", "()I"⟩
def dkwX5_allUp_1 : List UInt8 := [60, 132, 2, 1, 167, 255, 232, 27, 172]
abbrev dktX5_allUp_1 : List UInt8 := dkwX5_allUp_1 ++ []
def dkwX5_allUp_0 : List UInt8 := [3, 60, 3, 61, 28, 42, 180, 0, 7, 4, 46, 162, 0, 20, 27, 42, 28, 182, 0, 145, 184, 0, 193, 96]
abbrev dktX5_allUp_0 : List UInt8 := dkwX5_allUp_0 ++ dktX5_allUp_1
theorem dksX5_allUp_0 : cX5_allUp.data.toList.drop 0 = dktX5_allUp_0 := by decide +kernel
theorem dksX5_allUp_1 : cX5_allUp.data.toList.drop 24 = dktX5_allUp_1 := dk_seg dksX5_allUp_0 24 rfl rfl
theorem dX5_allUp_0 : decode cX5_allUp 0 = .ok (.iconst 0, 1) := dk_3 (dk_at dksX5_allUp_0 0 rfl rfl)
theorem dX5_allUp_1 : decode cX5_allUp 1 = .ok (.istore_n 1, 1) := dk_60 (dk_at dksX5_allUp_0 1 rfl rfl)
theorem dX5_allUp_2 : decode cX5_allUp 2 = .ok (.iconst 0, 1) := dk_3 (dk_at dksX5_allUp_0 2 rfl rfl)
theorem dX5_allUp_3 : decode cX5_allUp 3 = .ok (.istore_n 2, 1) := dk_61 (dk_at dksX5_allUp_0 3 rfl rfl)
theorem dX5_allUp_4 : decode cX5_allUp 4 = .ok (.iload_n 2, 1) := dk_28 (dk_at dksX5_allUp_0 4 rfl rfl)
theorem dX5_allUp_5 : decode cX5_allUp 5 = .ok (.aload_n 0, 1) := dk_42 (dk_at dksX5_allUp_0 5 rfl rfl)
theorem dX5_allUp_6 : decode cX5_allUp 6 = .ok (.getfield 7, 3) := dk_180 0 7 (dk_at dksX5_allUp_0 6 rfl rfl)
theorem dX5_allUp_9 : decode cX5_allUp 9 = .ok (.iconst 1, 1) := dk_4 (dk_at dksX5_allUp_0 9 rfl rfl)
theorem dX5_allUp_10 : decode cX5_allUp 10 = .ok (.iaload, 1) := dk_46 (dk_at dksX5_allUp_0 10 rfl rfl)
theorem dX5_allUp_11 : decode cX5_allUp 11 = .ok (.if_icmp .ge 20, 3) := dk_162 0 20 (dk_at dksX5_allUp_0 11 rfl rfl)
theorem dX5_allUp_14 : decode cX5_allUp 14 = .ok (.iload_n 1, 1) := dk_27 (dk_at dksX5_allUp_0 14 rfl rfl)
theorem dX5_allUp_15 : decode cX5_allUp 15 = .ok (.aload_n 0, 1) := dk_42 (dk_at dksX5_allUp_0 15 rfl rfl)
theorem dX5_allUp_16 : decode cX5_allUp 16 = .ok (.iload_n 2, 1) := dk_28 (dk_at dksX5_allUp_0 16 rfl rfl)
theorem dX5_allUp_17 : decode cX5_allUp 17 = .ok (.invokevirtual 145, 3) := dk_182 0 145 (dk_at dksX5_allUp_0 17 rfl rfl)
theorem dX5_allUp_20 : decode cX5_allUp 20 = .ok (.invokestatic 193, 3) := dk_184 0 193 (dk_at dksX5_allUp_0 20 rfl rfl)
theorem dX5_allUp_23 : decode cX5_allUp 23 = .ok (.iadd, 1) := dk_96 (dk_at dksX5_allUp_0 23 rfl rfl)
theorem dX5_allUp_24 : decode cX5_allUp 24 = .ok (.istore_n 1, 1) := dk_60 (dk_at dksX5_allUp_1 0 rfl rfl)
theorem dX5_allUp_25 : decode cX5_allUp 25 = .ok (.iinc 2 1, 3) := dk_132 2 1 (dk_at dksX5_allUp_1 1 rfl rfl)
theorem dX5_allUp_28 : decode cX5_allUp 28 = .ok (.goto (-24), 3) := dk_167 255 232 (dk_at dksX5_allUp_1 4 rfl rfl)
theorem dX5_allUp_31 : decode cX5_allUp 31 = .ok (.iload_n 1, 1) := dk_27 (dk_at dksX5_allUp_1 7 rfl rfl)
theorem dX5_allUp_32 : decode cX5_allUp 32 = .ok (.ireturn, 1) := dk_172 (dk_at dksX5_allUp_1 8 rfl rfl)
abbrev cX5_allThreads : ByteArray := prog_15_method_76_code
def yX5_allThreads : MethodName := ⟨RX5, "allThreads", "()I"⟩
def dkwX5_allThreads_1 : List UInt8 := [180, 0, 23, 28, 46, 96, 60, 132, 2, 1, 167, 255, 226, 27, 172]
abbrev dktX5_allThreads_1 : List UInt8 := dkwX5_allThreads_1 ++ []
def dkwX5_allThreads_0 : List UInt8 := [3, 60, 3, 61, 28, 6, 162, 0, 31, 27, 42, 180, 0, 23, 28, 46, 156, 0, 7, 3, 167, 0, 9, 42]
abbrev dktX5_allThreads_0 : List UInt8 := dkwX5_allThreads_0 ++ dktX5_allThreads_1
theorem dksX5_allThreads_0 : cX5_allThreads.data.toList.drop 0 = dktX5_allThreads_0 := by decide +kernel
theorem dksX5_allThreads_1 : cX5_allThreads.data.toList.drop 24 = dktX5_allThreads_1 := dk_seg dksX5_allThreads_0 24 rfl rfl
theorem dX5_allThreads_0 : decode cX5_allThreads 0 = .ok (.iconst 0, 1) := dk_3 (dk_at dksX5_allThreads_0 0 rfl rfl)
theorem dX5_allThreads_1 : decode cX5_allThreads 1 = .ok (.istore_n 1, 1) := dk_60 (dk_at dksX5_allThreads_0 1 rfl rfl)
theorem dX5_allThreads_2 : decode cX5_allThreads 2 = .ok (.iconst 0, 1) := dk_3 (dk_at dksX5_allThreads_0 2 rfl rfl)
theorem dX5_allThreads_3 : decode cX5_allThreads 3 = .ok (.istore_n 2, 1) := dk_61 (dk_at dksX5_allThreads_0 3 rfl rfl)
theorem dX5_allThreads_4 : decode cX5_allThreads 4 = .ok (.iload_n 2, 1) := dk_28 (dk_at dksX5_allThreads_0 4 rfl rfl)
theorem dX5_allThreads_5 : decode cX5_allThreads 5 = .ok (.iconst 3, 1) := dk_6 (dk_at dksX5_allThreads_0 5 rfl rfl)
theorem dX5_allThreads_6 : decode cX5_allThreads 6 = .ok (.if_icmp .ge 31, 3) := dk_162 0 31 (dk_at dksX5_allThreads_0 6 rfl rfl)
theorem dX5_allThreads_9 : decode cX5_allThreads 9 = .ok (.iload_n 1, 1) := dk_27 (dk_at dksX5_allThreads_0 9 rfl rfl)
theorem dX5_allThreads_10 : decode cX5_allThreads 10 = .ok (.aload_n 0, 1) := dk_42 (dk_at dksX5_allThreads_0 10 rfl rfl)
theorem dX5_allThreads_11 : decode cX5_allThreads 11 = .ok (.getfield 23, 3) := dk_180 0 23 (dk_at dksX5_allThreads_0 11 rfl rfl)
theorem dX5_allThreads_14 : decode cX5_allThreads 14 = .ok (.iload_n 2, 1) := dk_28 (dk_at dksX5_allThreads_0 14 rfl rfl)
theorem dX5_allThreads_15 : decode cX5_allThreads 15 = .ok (.iaload, 1) := dk_46 (dk_at dksX5_allThreads_0 15 rfl rfl)
theorem dX5_allThreads_16 : decode cX5_allThreads 16 = .ok (.ifCond .ge 7, 3) := dk_156 0 7 (dk_at dksX5_allThreads_0 16 rfl rfl)
theorem dX5_allThreads_19 : decode cX5_allThreads 19 = .ok (.iconst 0, 1) := dk_3 (dk_at dksX5_allThreads_0 19 rfl rfl)
theorem dX5_allThreads_20 : decode cX5_allThreads 20 = .ok (.goto 9, 3) := dk_167 0 9 (dk_at dksX5_allThreads_0 20 rfl rfl)
theorem dX5_allThreads_23 : decode cX5_allThreads 23 = .ok (.aload_n 0, 1) := dk_42 (dk_at dksX5_allThreads_0 23 rfl rfl)
theorem dX5_allThreads_24 : decode cX5_allThreads 24 = .ok (.getfield 23, 3) := dk_180 0 23 (dk_at dksX5_allThreads_1 0 rfl rfl)
theorem dX5_allThreads_27 : decode cX5_allThreads 27 = .ok (.iload_n 2, 1) := dk_28 (dk_at dksX5_allThreads_1 3 rfl rfl)
theorem dX5_allThreads_28 : decode cX5_allThreads 28 = .ok (.iaload, 1) := dk_46 (dk_at dksX5_allThreads_1 4 rfl rfl)
theorem dX5_allThreads_29 : decode cX5_allThreads 29 = .ok (.iadd, 1) := dk_96 (dk_at dksX5_allThreads_1 5 rfl rfl)
theorem dX5_allThreads_30 : decode cX5_allThreads 30 = .ok (.istore_n 1, 1) := dk_60 (dk_at dksX5_allThreads_1 6 rfl rfl)
theorem dX5_allThreads_31 : decode cX5_allThreads 31 = .ok (.iinc 2 1, 3) := dk_132 2 1 (dk_at dksX5_allThreads_1 7 rfl rfl)
theorem dX5_allThreads_34 : decode cX5_allThreads 34 = .ok (.goto (-30), 3) := dk_167 255 226 (dk_at dksX5_allThreads_1 10 rfl rfl)
theorem dX5_allThreads_37 : decode cX5_allThreads 37 = .ok (.iload_n 1, 1) := dk_27 (dk_at dksX5_allThreads_1 13 rfl rfl)
theorem dX5_allThreads_38 : decode cX5_allThreads 38 = .ok (.ireturn, 1) := dk_172 (dk_at dksX5_allThreads_1 14 rfl rfl)
theorem q72 : (Jvm.Cond.initialized "WeaveDraftModel") ∈ lw_all := lw_g (lw_at lw_m1 6 rfl) rfl
theorem q585 : (Jvm.Cond.selects "WeaveDraftModel" ({ cls := "java/lang/Object", name := "equals", desc := "(Ljava/lang/Object;)Z" } : Jvm.MethodName) ({ cls := "java/lang/Object", name := "equals", desc := "(Ljava/lang/Object;)Z" } : Jvm.MethodName)) ∈ lw_all := lw_g (lw_at lw_m3 39 rfl) rfl
theorem q1182 : (Jvm.Cond.instantiable "WeaveDraftModel" (18 : Nat)) ∈ lw_all := lw_g (lw_at lw_m5 156 rfl) rfl
theorem q1184 : (Jvm.Cond.instanceMethod ({ cls := "WeaveDraftModel", name := "<init>", desc := "()V" } : Jvm.MethodName)) ∈ lw_all := lw_g (lw_at lw_m5 158 rfl) rfl
theorem q1185 : (Jvm.Cond.code ({ cls := "WeaveDraftModel", name := "<init>", desc := "()V" } : Jvm.MethodName) prog_15_method_1_code (1 : Nat) (Option.none : Option Jvm.ClassFile.FieldType)) ∈ lw_all := lw_g (lw_at lw_m5 159 rfl) rfl
theorem q1186 : (Jvm.Cond.methodLink "WeaveDraftModel" (1 : Nat) ({ cls := "java/lang/Object", name := "<init>", desc := "()V" } : Jvm.MethodName)) ∈ lw_all := lw_g (lw_at lw_m5 160 rfl) rfl
theorem q1187 : (Jvm.Cond.methodLink "WeaveDraftModel" (41 : Nat) ({ cls := "WeaveDraftModel", name := "anew", desc := "(IIII)V" } : Jvm.MethodName)) ∈ lw_all := lw_g (lw_at lw_m5 161 rfl) rfl
theorem q1188 : (Jvm.Cond.privateMethod ({ cls := "WeaveDraftModel", name := "anew", desc := "(IIII)V" } : Jvm.MethodName)) ∈ lw_tbl := lw_at lw_m5 162 rfl
theorem q1189 : (Jvm.Cond.instanceMethod ({ cls := "WeaveDraftModel", name := "anew", desc := "(IIII)V" } : Jvm.MethodName)) ∈ lw_all := lw_g (lw_at lw_m5 163 rfl) rfl
theorem q1190 : (Jvm.Cond.code ({ cls := "WeaveDraftModel", name := "anew", desc := "(IIII)V" } : Jvm.MethodName) prog_15_method_6_code (6 : Nat) (Option.none : Option Jvm.ClassFile.FieldType)) ∈ lw_all := lw_g (lw_at lw_m5 164 rfl) rfl
theorem q1191 : (Jvm.Cond.fieldLink "WeaveDraftModel" (7 : Nat) "WeaveDraftModel" "row" "[I") ∈ lw_all := lw_g (lw_at lw_m5 165 rfl) rfl
theorem q1192 : (Jvm.Cond.fieldLink "WeaveDraftModel" (13 : Nat) "WeaveDraftModel" "crosses" "[I") ∈ lw_all := lw_g (lw_at lw_m5 166 rfl) rfl
theorem q1193 : (Jvm.Cond.fieldLink "WeaveDraftModel" (87 : Nat) "WeaveDraftModel" "rows" "I") ∈ lw_all := lw_g (lw_at lw_m5 167 rfl) rfl
theorem q1194 : (Jvm.Cond.fieldLink "WeaveDraftModel" (90 : Nat) "WeaveDraftModel" "columns" "I") ∈ lw_all := lw_g (lw_at lw_m5 168 rfl) rfl
theorem q1195 : (Jvm.Cond.fieldLink "WeaveDraftModel" (121 : Nat) "WeaveDraftModel" "undos" "I") ∈ lw_all := lw_g (lw_at lw_m5 169 rfl) rfl
theorem q1196 : (Jvm.Cond.fieldLink "WeaveDraftModel" (16 : Nat) "WeaveDraftModel" "isKept" "[Z") ∈ lw_all := lw_g (lw_at lw_m5 170 rfl) rfl
theorem q1197 : (Jvm.Cond.fieldLink "WeaveDraftModel" (20 : Nat) "WeaveDraftModel" "text" "[I") ∈ lw_all := lw_g (lw_at lw_m5 171 rfl) rfl
theorem q1198 : (Jvm.Cond.fieldLink "WeaveDraftModel" (51 : Nat) "WeaveDraftModel" "length" "I") ∈ lw_all := lw_g (lw_at lw_m5 172 rfl) rfl
theorem q1199 : (Jvm.Cond.fieldLink "WeaveDraftModel" (23 : Nat) "WeaveDraftModel" "sizes" "[I") ∈ lw_all := lw_g (lw_at lw_m5 173 rfl) rfl
theorem q1200 : (Jvm.Cond.fieldLink "WeaveDraftModel" (26 : Nat) "WeaveDraftModel" "threads" "[I") ∈ lw_all := lw_g (lw_at lw_m5 174 rfl) rfl
theorem q1201 : (Jvm.Cond.fieldLink "WeaveDraftModel" (66 : Nat) "WeaveDraftModel" "first" "I") ∈ lw_all := lw_g (lw_at lw_m5 175 rfl) rfl
theorem q1202 : (Jvm.Cond.fieldLink "WeaveDraftModel" (63 : Nat) "WeaveDraftModel" "behind" "I") ∈ lw_all := lw_g (lw_at lw_m5 176 rfl) rfl
theorem q1203 : (Jvm.Cond.fieldLink "WeaveDraftModel" (29 : Nat) "WeaveDraftModel" "read" "[I") ∈ lw_all := lw_g (lw_at lw_m5 177 rfl) rfl
theorem q1204 : (Jvm.Cond.fieldLink "WeaveDraftModel" (111 : Nat) "WeaveDraftModel" "clauses" "I") ∈ lw_all := lw_g (lw_at lw_m5 178 rfl) rfl
theorem q1205 : (Jvm.Cond.fieldLink "WeaveDraftModel" (104 : Nat) "WeaveDraftModel" "doing" "Z") ∈ lw_all := lw_g (lw_at lw_m5 179 rfl) rfl
theorem q1206 : (Jvm.Cond.fieldLink "WeaveDraftModel" (32 : Nat) "WeaveDraftModel" "numbers" "[I") ∈ lw_all := lw_g (lw_at lw_m5 180 rfl) rfl
theorem q1207 : (Jvm.Cond.fieldLink "WeaveDraftModel" (35 : Nat) "WeaveDraftModel" "words" "[I") ∈ lw_all := lw_g (lw_at lw_m5 181 rfl) rfl
theorem q1208 : (Jvm.Cond.fieldLink "WeaveDraftModel" (38 : Nat) "WeaveDraftModel" "ties" "[I") ∈ lw_all := lw_g (lw_at lw_m5 182 rfl) rfl
theorem q1209 : (Jvm.Cond.laysFinal "WeaveDraftModel" "WeaveDraftModel" "row" "[I") ∈ lw_all := lw_g (lw_at lw_m5 183 rfl) rfl
theorem q1210 : (Jvm.Cond.soleField "WeaveDraftModel" "row") ∈ lw_all := lw_g (lw_at lw_m5 184 rfl) rfl
theorem q1211 : (Jvm.Cond.laysFinal "WeaveDraftModel" "WeaveDraftModel" "crosses" "[I") ∈ lw_all := lw_g (lw_at lw_m5 185 rfl) rfl
theorem q1212 : (Jvm.Cond.soleField "WeaveDraftModel" "crosses") ∈ lw_all := lw_g (lw_at lw_m5 186 rfl) rfl
theorem q1213 : (Jvm.Cond.lays "WeaveDraftModel" "WeaveDraftModel" "rows" "I") ∈ lw_all := lw_g (lw_at lw_m5 187 rfl) rfl
theorem q1214 : (Jvm.Cond.soleField "WeaveDraftModel" "rows") ∈ lw_all := lw_g (lw_at lw_m5 188 rfl) rfl
theorem q1215 : (Jvm.Cond.lays "WeaveDraftModel" "WeaveDraftModel" "columns" "I") ∈ lw_all := lw_g (lw_at lw_m5 189 rfl) rfl
theorem q1216 : (Jvm.Cond.soleField "WeaveDraftModel" "columns") ∈ lw_all := lw_g (lw_at lw_m5 190 rfl) rfl
theorem q1217 : (Jvm.Cond.lays "WeaveDraftModel" "WeaveDraftModel" "undos" "I") ∈ lw_all := lw_g (lw_at lw_m5 191 rfl) rfl
theorem q1218 : (Jvm.Cond.soleField "WeaveDraftModel" "undos") ∈ lw_all := lw_g (lw_at lw_m5 192 rfl) rfl
theorem q1219 : (Jvm.Cond.laysFinal "WeaveDraftModel" "WeaveDraftModel" "isKept" "[Z") ∈ lw_all := lw_g (lw_at lw_m5 193 rfl) rfl
theorem q1220 : (Jvm.Cond.soleField "WeaveDraftModel" "isKept") ∈ lw_all := lw_g (lw_at lw_m5 194 rfl) rfl
theorem q1221 : (Jvm.Cond.laysFinal "WeaveDraftModel" "WeaveDraftModel" "text" "[I") ∈ lw_all := lw_g (lw_at lw_m5 195 rfl) rfl
theorem q1222 : (Jvm.Cond.soleField "WeaveDraftModel" "text") ∈ lw_all := lw_g (lw_at lw_m5 196 rfl) rfl
theorem q1223 : (Jvm.Cond.lays "WeaveDraftModel" "WeaveDraftModel" "length" "I") ∈ lw_all := lw_g (lw_at lw_m5 197 rfl) rfl
theorem q1224 : (Jvm.Cond.soleField "WeaveDraftModel" "length") ∈ lw_all := lw_g (lw_at lw_m5 198 rfl) rfl
theorem q1225 : (Jvm.Cond.laysFinal "WeaveDraftModel" "WeaveDraftModel" "sizes" "[I") ∈ lw_all := lw_g (lw_at lw_m5 199 rfl) rfl
theorem q1226 : (Jvm.Cond.soleField "WeaveDraftModel" "sizes") ∈ lw_all := lw_g (lw_at lw_m5 200 rfl) rfl
theorem q1227 : (Jvm.Cond.laysFinal "WeaveDraftModel" "WeaveDraftModel" "threads" "[I") ∈ lw_all := lw_g (lw_at lw_m5 201 rfl) rfl
theorem q1228 : (Jvm.Cond.soleField "WeaveDraftModel" "threads") ∈ lw_all := lw_g (lw_at lw_m5 202 rfl) rfl
theorem q1229 : (Jvm.Cond.lays "WeaveDraftModel" "WeaveDraftModel" "first" "I") ∈ lw_all := lw_g (lw_at lw_m5 203 rfl) rfl
theorem q1230 : (Jvm.Cond.soleField "WeaveDraftModel" "first") ∈ lw_all := lw_g (lw_at lw_m5 204 rfl) rfl
theorem q1231 : (Jvm.Cond.lays "WeaveDraftModel" "WeaveDraftModel" "behind" "I") ∈ lw_all := lw_g (lw_at lw_m5 205 rfl) rfl
theorem q1232 : (Jvm.Cond.soleField "WeaveDraftModel" "behind") ∈ lw_all := lw_g (lw_at lw_m5 206 rfl) rfl
theorem q1233 : (Jvm.Cond.laysFinal "WeaveDraftModel" "WeaveDraftModel" "read" "[I") ∈ lw_all := lw_g (lw_at lw_m5 207 rfl) rfl
theorem q1234 : (Jvm.Cond.soleField "WeaveDraftModel" "read") ∈ lw_all := lw_g (lw_at lw_m5 208 rfl) rfl
theorem q1235 : (Jvm.Cond.lays "WeaveDraftModel" "WeaveDraftModel" "clauses" "I") ∈ lw_all := lw_g (lw_at lw_m5 209 rfl) rfl
theorem q1236 : (Jvm.Cond.soleField "WeaveDraftModel" "clauses") ∈ lw_all := lw_g (lw_at lw_m5 210 rfl) rfl
theorem q1237 : (Jvm.Cond.lays "WeaveDraftModel" "WeaveDraftModel" "doing" "Z") ∈ lw_all := lw_g (lw_at lw_m5 211 rfl) rfl
theorem q1238 : (Jvm.Cond.soleField "WeaveDraftModel" "doing") ∈ lw_all := lw_g (lw_at lw_m5 212 rfl) rfl
theorem q1239 : (Jvm.Cond.laysFinal "WeaveDraftModel" "WeaveDraftModel" "numbers" "[I") ∈ lw_all := lw_g (lw_at lw_m5 213 rfl) rfl
theorem q1240 : (Jvm.Cond.soleField "WeaveDraftModel" "numbers") ∈ lw_all := lw_g (lw_at lw_m5 214 rfl) rfl
theorem q1241 : (Jvm.Cond.laysFinal "WeaveDraftModel" "WeaveDraftModel" "words" "[I") ∈ lw_all := lw_g (lw_at lw_m5 215 rfl) rfl
theorem q1242 : (Jvm.Cond.soleField "WeaveDraftModel" "words") ∈ lw_all := lw_g (lw_at lw_m5 216 rfl) rfl
theorem q1243 : (Jvm.Cond.laysFinal "WeaveDraftModel" "WeaveDraftModel" "ties" "[I") ∈ lw_all := lw_g (lw_at lw_m5 217 rfl) rfl
theorem q1244 : (Jvm.Cond.soleField "WeaveDraftModel" "ties") ∈ lw_all := lw_g (lw_at lw_m5 218 rfl) rfl
theorem q1245 : (Jvm.Cond.superclass "WeaveDraftModel" "java/lang/Object") ∈ lw_all := lw_g (lw_at lw_m5 219 rfl) rfl
theorem q1248 : (Jvm.Cond.instanceMethod ({ cls := "WeaveDraftModel", name := "write", desc := "(I)I" } : Jvm.MethodName)) ∈ lw_all := lw_g (lw_at lw_m5 222 rfl) rfl
theorem q1249 : (Jvm.Cond.selects "WeaveDraftModel" ({ cls := "WeaveDraftModel", name := "write", desc := "(I)I" } : Jvm.MethodName) ({ cls := "WeaveDraftModel", name := "write", desc := "(I)I" } : Jvm.MethodName)) ∈ lw_all := lw_g (lw_at lw_m5 223 rfl) rfl
theorem q1250 : (Jvm.Cond.code ({ cls := "WeaveDraftModel", name := "write", desc := "(I)I" } : Jvm.MethodName) prog_15_method_7_code (2 : Nat) (Option.some Jvm.ClassFile.FieldType.int)) ∈ lw_all := lw_g (lw_at lw_m5 224 rfl) rfl
theorem q1251 : (Jvm.Cond.constantLong "WeaveDraftModel" (45 : Nat) (255 : Int64)) ∈ lw_all := lw_g (lw_at lw_m5 225 rfl) rfl
theorem q1252 : (Jvm.Cond.methodLink "WeaveDraftModel" (47 : Nat) ({ cls := "WeaveDraftModel", name := "in", desc := "(JJJ)Z" } : Jvm.MethodName)) ∈ lw_all := lw_g (lw_at lw_m5 226 rfl) rfl
theorem q1253 : (Jvm.Cond.static ({ cls := "WeaveDraftModel", name := "in", desc := "(JJJ)Z" } : Jvm.MethodName)) ∈ lw_all := lw_g (lw_at lw_m5 227 rfl) rfl
theorem q1254 : (Jvm.Cond.code ({ cls := "WeaveDraftModel", name := "in", desc := "(JJJ)Z" } : Jvm.MethodName) prog_15_method_2_code (6 : Nat) (Option.some Jvm.ClassFile.FieldType.boolean)) ∈ lw_all := lw_g (lw_at lw_m5 228 rfl) rfl
theorem q1256 : (Jvm.Cond.instanceMethod ({ cls := "WeaveDraftModel", name := "erase", desc := "()I" } : Jvm.MethodName)) ∈ lw_all := lw_g (lw_at lw_m5 230 rfl) rfl
theorem q1257 : (Jvm.Cond.selects "WeaveDraftModel" ({ cls := "WeaveDraftModel", name := "erase", desc := "()I" } : Jvm.MethodName) ({ cls := "WeaveDraftModel", name := "erase", desc := "()I" } : Jvm.MethodName)) ∈ lw_all := lw_g (lw_at lw_m5 231 rfl) rfl
theorem q1258 : (Jvm.Cond.code ({ cls := "WeaveDraftModel", name := "erase", desc := "()I" } : Jvm.MethodName) prog_15_method_8_code (2 : Nat) (Option.some Jvm.ClassFile.FieldType.int)) ∈ lw_all := lw_g (lw_at lw_m5 232 rfl) rfl
theorem q1260 : (Jvm.Cond.instanceMethod ({ cls := "WeaveDraftModel", name := "fault", desc := "()I" } : Jvm.MethodName)) ∈ lw_all := lw_g (lw_at lw_m5 234 rfl) rfl
theorem q1261 : (Jvm.Cond.selects "WeaveDraftModel" ({ cls := "WeaveDraftModel", name := "fault", desc := "()I" } : Jvm.MethodName) ({ cls := "WeaveDraftModel", name := "fault", desc := "()I" } : Jvm.MethodName)) ∈ lw_all := lw_g (lw_at lw_m5 235 rfl) rfl
theorem q1262 : (Jvm.Cond.code ({ cls := "WeaveDraftModel", name := "fault", desc := "()I" } : Jvm.MethodName) prog_15_method_20_code (1 : Nat) (Option.some Jvm.ClassFile.FieldType.int)) ∈ lw_all := lw_g (lw_at lw_m5 236 rfl) rfl
theorem q1263 : (Jvm.Cond.methodLink "WeaveDraftModel" (117 : Nat) ({ cls := "WeaveDraftModel", name := "reads", desc := "(Z)Z" } : Jvm.MethodName)) ∈ lw_all := lw_g (lw_at lw_m5 237 rfl) rfl
theorem q1264 : (Jvm.Cond.privateMethod ({ cls := "WeaveDraftModel", name := "reads", desc := "(Z)Z" } : Jvm.MethodName)) ∈ lw_tbl := lw_at lw_m5 238 rfl
theorem q1265 : (Jvm.Cond.instanceMethod ({ cls := "WeaveDraftModel", name := "reads", desc := "(Z)Z" } : Jvm.MethodName)) ∈ lw_all := lw_g (lw_at lw_m5 239 rfl) rfl
theorem q1266 : (Jvm.Cond.code ({ cls := "WeaveDraftModel", name := "reads", desc := "(Z)Z" } : Jvm.MethodName) prog_15_method_19_code (3 : Nat) (Option.some Jvm.ClassFile.FieldType.boolean)) ∈ lw_all := lw_g (lw_at lw_m6 0 rfl) rfl
theorem q1267 : (Jvm.Cond.methodLink "WeaveDraftModel" (76 : Nat) ({ cls := "WeaveDraftModel", name := "nextToken", desc := "()V" } : Jvm.MethodName)) ∈ lw_all := lw_g (lw_at lw_m6 1 rfl) rfl
theorem q1268 : (Jvm.Cond.privateMethod ({ cls := "WeaveDraftModel", name := "nextToken", desc := "()V" } : Jvm.MethodName)) ∈ lw_tbl := lw_at lw_m6 2 rfl
theorem q1269 : (Jvm.Cond.instanceMethod ({ cls := "WeaveDraftModel", name := "nextToken", desc := "()V" } : Jvm.MethodName)) ∈ lw_all := lw_g (lw_at lw_m6 3 rfl) rfl
theorem q1270 : (Jvm.Cond.code ({ cls := "WeaveDraftModel", name := "nextToken", desc := "()V" } : Jvm.MethodName) prog_15_method_11_code (1 : Nat) (Option.none : Option Jvm.ClassFile.FieldType)) ∈ lw_all := lw_g (lw_at lw_m6 4 rfl) rfl
theorem q1271 : (Jvm.Cond.methodLink "WeaveDraftModel" (69 : Nat) ({ cls := "WeaveDraftModel", name := "isSmall", desc := "(I)Z" } : Jvm.MethodName)) ∈ lw_all := lw_g (lw_at lw_m6 5 rfl) rfl
theorem q1272 : (Jvm.Cond.static ({ cls := "WeaveDraftModel", name := "isSmall", desc := "(I)Z" } : Jvm.MethodName)) ∈ lw_all := lw_g (lw_at lw_m6 6 rfl) rfl
theorem q1273 : (Jvm.Cond.code ({ cls := "WeaveDraftModel", name := "isSmall", desc := "(I)Z" } : Jvm.MethodName) prog_15_method_9_code (1 : Nat) (Option.some Jvm.ClassFile.FieldType.boolean)) ∈ lw_all := lw_g (lw_at lw_m6 7 rfl) rfl
theorem q1274 : (Jvm.Cond.constantLong "WeaveDraftModel" (55 : Nat) (97 : Int64)) ∈ lw_all := lw_g (lw_at lw_m6 8 rfl) rfl
theorem q1275 : (Jvm.Cond.constantLong "WeaveDraftModel" (57 : Nat) (122 : Int64)) ∈ lw_all := lw_g (lw_at lw_m6 9 rfl) rfl
theorem q1276 : (Jvm.Cond.methodLink "WeaveDraftModel" (73 : Nat) ({ cls := "WeaveDraftModel", name := "isDigit", desc := "(I)Z" } : Jvm.MethodName)) ∈ lw_all := lw_g (lw_at lw_m6 10 rfl) rfl
theorem q1277 : (Jvm.Cond.static ({ cls := "WeaveDraftModel", name := "isDigit", desc := "(I)Z" } : Jvm.MethodName)) ∈ lw_all := lw_g (lw_at lw_m6 11 rfl) rfl
theorem q1278 : (Jvm.Cond.code ({ cls := "WeaveDraftModel", name := "isDigit", desc := "(I)Z" } : Jvm.MethodName) prog_15_method_10_code (1 : Nat) (Option.some Jvm.ClassFile.FieldType.boolean)) ∈ lw_all := lw_g (lw_at lw_m6 12 rfl) rfl
theorem q1279 : (Jvm.Cond.constantLong "WeaveDraftModel" (59 : Nat) (48 : Int64)) ∈ lw_all := lw_g (lw_at lw_m6 13 rfl) rfl
theorem q1280 : (Jvm.Cond.constantLong "WeaveDraftModel" (61 : Nat) (57 : Int64)) ∈ lw_all := lw_g (lw_at lw_m6 14 rfl) rfl
theorem q1281 : (Jvm.Cond.methodLink "WeaveDraftModel" (114 : Nat) ({ cls := "WeaveDraftModel", name := "readsClause", desc := "()Z" } : Jvm.MethodName)) ∈ lw_all := lw_g (lw_at lw_m6 15 rfl) rfl
theorem q1282 : (Jvm.Cond.privateMethod ({ cls := "WeaveDraftModel", name := "readsClause", desc := "()Z" } : Jvm.MethodName)) ∈ lw_tbl := lw_at lw_m6 16 rfl
theorem q1283 : (Jvm.Cond.instanceMethod ({ cls := "WeaveDraftModel", name := "readsClause", desc := "()Z" } : Jvm.MethodName)) ∈ lw_all := lw_g (lw_at lw_m6 17 rfl) rfl
theorem q1284 : (Jvm.Cond.code ({ cls := "WeaveDraftModel", name := "readsClause", desc := "()Z" } : Jvm.MethodName) prog_15_method_18_code (2 : Nat) (Option.some Jvm.ClassFile.FieldType.boolean)) ∈ lw_all := lw_g (lw_at lw_m6 18 rfl) rfl
theorem q1285 : (Jvm.Cond.methodLink "WeaveDraftModel" (93 : Nat) ({ cls := "WeaveDraftModel", name := "wordHere", desc := "()I" } : Jvm.MethodName)) ∈ lw_all := lw_g (lw_at lw_m6 19 rfl) rfl
theorem q1286 : (Jvm.Cond.privateMethod ({ cls := "WeaveDraftModel", name := "wordHere", desc := "()I" } : Jvm.MethodName)) ∈ lw_tbl := lw_at lw_m6 20 rfl
theorem q1287 : (Jvm.Cond.instanceMethod ({ cls := "WeaveDraftModel", name := "wordHere", desc := "()I" } : Jvm.MethodName)) ∈ lw_all := lw_g (lw_at lw_m6 21 rfl) rfl
theorem q1288 : (Jvm.Cond.code ({ cls := "WeaveDraftModel", name := "wordHere", desc := "()I" } : Jvm.MethodName) prog_15_method_12_code (4 : Nat) (Option.some Jvm.ClassFile.FieldType.int)) ∈ lw_all := lw_g (lw_at lw_m6 22 rfl) rfl
theorem q1289 : (Jvm.Cond.methodLink "WeaveDraftModel" (97 : Nat) ({ cls := "WeaveDraftModel", name := "readsRest", desc := "(I)Z" } : Jvm.MethodName)) ∈ lw_all := lw_g (lw_at lw_m6 23 rfl) rfl
theorem q1290 : (Jvm.Cond.privateMethod ({ cls := "WeaveDraftModel", name := "readsRest", desc := "(I)Z" } : Jvm.MethodName)) ∈ lw_tbl := lw_at lw_m6 24 rfl
theorem q1291 : (Jvm.Cond.instanceMethod ({ cls := "WeaveDraftModel", name := "readsRest", desc := "(I)Z" } : Jvm.MethodName)) ∈ lw_all := lw_g (lw_at lw_m6 25 rfl) rfl
theorem q1292 : (Jvm.Cond.code ({ cls := "WeaveDraftModel", name := "readsRest", desc := "(I)Z" } : Jvm.MethodName) prog_15_method_15_code (2 : Nat) (Option.some Jvm.ClassFile.FieldType.boolean)) ∈ lw_all := lw_g (lw_at lw_m6 26 rfl) rfl
theorem q1293 : (Jvm.Cond.methodLink "WeaveDraftModel" (79 : Nat) ({ cls := "WeaveDraftModel", name := "number", desc := "(III)Z" } : Jvm.MethodName)) ∈ lw_all := lw_g (lw_at lw_m6 27 rfl) rfl
theorem q1294 : (Jvm.Cond.privateMethod ({ cls := "WeaveDraftModel", name := "number", desc := "(III)Z" } : Jvm.MethodName)) ∈ lw_tbl := lw_at lw_m6 28 rfl
theorem q1295 : (Jvm.Cond.instanceMethod ({ cls := "WeaveDraftModel", name := "number", desc := "(III)Z" } : Jvm.MethodName)) ∈ lw_all := lw_g (lw_at lw_m6 29 rfl) rfl
theorem q1296 : (Jvm.Cond.code ({ cls := "WeaveDraftModel", name := "number", desc := "(III)Z" } : Jvm.MethodName) prog_15_method_13_code (6 : Nat) (Option.some Jvm.ClassFile.FieldType.boolean)) ∈ lw_all := lw_g (lw_at lw_m6 30 rfl) rfl
theorem q1297 : (Jvm.Cond.methodLink "WeaveDraftModel" (83 : Nat) ({ cls := "WeaveDraftModel", name := "crossesHere", desc := "()Z" } : Jvm.MethodName)) ∈ lw_all := lw_g (lw_at lw_m6 31 rfl) rfl
theorem q1298 : (Jvm.Cond.privateMethod ({ cls := "WeaveDraftModel", name := "crossesHere", desc := "()Z" } : Jvm.MethodName)) ∈ lw_tbl := lw_at lw_m6 32 rfl
theorem q1299 : (Jvm.Cond.instanceMethod ({ cls := "WeaveDraftModel", name := "crossesHere", desc := "()Z" } : Jvm.MethodName)) ∈ lw_all := lw_g (lw_at lw_m6 33 rfl) rfl
theorem q1300 : (Jvm.Cond.code ({ cls := "WeaveDraftModel", name := "crossesHere", desc := "()Z" } : Jvm.MethodName) prog_15_method_14_code (5 : Nat) (Option.some Jvm.ClassFile.FieldType.boolean)) ∈ lw_all := lw_g (lw_at lw_m6 34 rfl) rfl
theorem q1301 : (Jvm.Cond.methodLink "WeaveDraftModel" (100 : Nat) ({ cls := "WeaveDraftModel", name := "notes", desc := "(I)V" } : Jvm.MethodName)) ∈ lw_all := lw_g (lw_at lw_m6 35 rfl) rfl
theorem q1302 : (Jvm.Cond.privateMethod ({ cls := "WeaveDraftModel", name := "notes", desc := "(I)V" } : Jvm.MethodName)) ∈ lw_tbl := lw_at lw_m6 36 rfl
theorem q1303 : (Jvm.Cond.instanceMethod ({ cls := "WeaveDraftModel", name := "notes", desc := "(I)V" } : Jvm.MethodName)) ∈ lw_all := lw_g (lw_at lw_m6 37 rfl) rfl
theorem q1304 : (Jvm.Cond.code ({ cls := "WeaveDraftModel", name := "notes", desc := "(I)V" } : Jvm.MethodName) prog_15_method_17_code (3 : Nat) (Option.none : Option Jvm.ClassFile.FieldType)) ∈ lw_all := lw_g (lw_at lw_m6 38 rfl) rfl
theorem q1305 : (Jvm.Cond.methodLink "WeaveDraftModel" (108 : Nat) ({ cls := "WeaveDraftModel", name := "does", desc := "(I)V" } : Jvm.MethodName)) ∈ lw_all := lw_g (lw_at lw_m6 39 rfl) rfl
theorem q1306 : (Jvm.Cond.privateMethod ({ cls := "WeaveDraftModel", name := "does", desc := "(I)V" } : Jvm.MethodName)) ∈ lw_tbl := lw_at lw_m6 40 rfl
theorem q1307 : (Jvm.Cond.instanceMethod ({ cls := "WeaveDraftModel", name := "does", desc := "(I)V" } : Jvm.MethodName)) ∈ lw_all := lw_g (lw_at lw_m6 41 rfl) rfl
theorem q1308 : (Jvm.Cond.code ({ cls := "WeaveDraftModel", name := "does", desc := "(I)V" } : Jvm.MethodName) prog_15_method_16_code (2 : Nat) (Option.none : Option Jvm.ClassFile.FieldType)) ∈ lw_all := lw_g (lw_at lw_m6 42 rfl) rfl
theorem q1310 : (Jvm.Cond.instanceMethod ({ cls := "WeaveDraftModel", name := "draft", desc := "()I" } : Jvm.MethodName)) ∈ lw_all := lw_g (lw_at lw_m6 44 rfl) rfl
theorem q1311 : (Jvm.Cond.selects "WeaveDraftModel" ({ cls := "WeaveDraftModel", name := "draft", desc := "()I" } : Jvm.MethodName) ({ cls := "WeaveDraftModel", name := "draft", desc := "()I" } : Jvm.MethodName)) ∈ lw_all := lw_g (lw_at lw_m6 45 rfl) rfl
theorem q1312 : (Jvm.Cond.code ({ cls := "WeaveDraftModel", name := "draft", desc := "()I" } : Jvm.MethodName) prog_15_method_21_code (2 : Nat) (Option.some Jvm.ClassFile.FieldType.int)) ∈ lw_all := lw_g (lw_at lw_m6 46 rfl) rfl
theorem q1314 : (Jvm.Cond.instanceMethod ({ cls := "WeaveDraftModel", name := "end", desc := "(II)I" } : Jvm.MethodName)) ∈ lw_all := lw_g (lw_at lw_m6 48 rfl) rfl
theorem q1315 : (Jvm.Cond.selects "WeaveDraftModel" ({ cls := "WeaveDraftModel", name := "end", desc := "(II)I" } : Jvm.MethodName) ({ cls := "WeaveDraftModel", name := "end", desc := "(II)I" } : Jvm.MethodName)) ∈ lw_all := lw_g (lw_at lw_m6 49 rfl) rfl
theorem q1316 : (Jvm.Cond.code ({ cls := "WeaveDraftModel", name := "end", desc := "(II)I" } : Jvm.MethodName) prog_15_method_30_code (3 : Nat) (Option.some Jvm.ClassFile.FieldType.int)) ∈ lw_all := lw_g (lw_at lw_m6 50 rfl) rfl
theorem q1317 : (Jvm.Cond.methodLink "WeaveDraftModel" (131 : Nat) ({ cls := "WeaveDraftModel", name := "isEnd", desc := "(I)Z" } : Jvm.MethodName)) ∈ lw_all := lw_g (lw_at lw_m6 51 rfl) rfl
theorem q1318 : (Jvm.Cond.privateMethod ({ cls := "WeaveDraftModel", name := "isEnd", desc := "(I)Z" } : Jvm.MethodName)) ∈ lw_tbl := lw_at lw_m6 52 rfl
theorem q1319 : (Jvm.Cond.instanceMethod ({ cls := "WeaveDraftModel", name := "isEnd", desc := "(I)Z" } : Jvm.MethodName)) ∈ lw_all := lw_g (lw_at lw_m6 53 rfl) rfl
theorem q1320 : (Jvm.Cond.code ({ cls := "WeaveDraftModel", name := "isEnd", desc := "(I)Z" } : Jvm.MethodName) prog_15_method_22_code (2 : Nat) (Option.some Jvm.ClassFile.FieldType.boolean)) ∈ lw_all := lw_g (lw_at lw_m6 54 rfl) rfl
theorem q1321 : (Jvm.Cond.methodLink "WeaveDraftModel" (134 : Nat) ({ cls := "WeaveDraftModel", name := "upEnd", desc := "(I)I" } : Jvm.MethodName)) ∈ lw_all := lw_g (lw_at lw_m6 55 rfl) rfl
theorem q1322 : (Jvm.Cond.privateMethod ({ cls := "WeaveDraftModel", name := "upEnd", desc := "(I)I" } : Jvm.MethodName)) ∈ lw_tbl := lw_at lw_m6 56 rfl
theorem q1323 : (Jvm.Cond.instanceMethod ({ cls := "WeaveDraftModel", name := "upEnd", desc := "(I)I" } : Jvm.MethodName)) ∈ lw_all := lw_g (lw_at lw_m6 57 rfl) rfl
theorem q1324 : (Jvm.Cond.code ({ cls := "WeaveDraftModel", name := "upEnd", desc := "(I)I" } : Jvm.MethodName) prog_15_method_27_code (4 : Nat) (Option.some Jvm.ClassFile.FieldType.int)) ∈ lw_all := lw_g (lw_at lw_m6 58 rfl) rfl
theorem q1325 : (Jvm.Cond.methodLink "WeaveDraftModel" (128 : Nat) ({ cls := "WeaveDraftModel", name := "isUp", desc := "(II)Z" } : Jvm.MethodName)) ∈ lw_all := lw_g (lw_at lw_m6 59 rfl) rfl
theorem q1326 : (Jvm.Cond.privateMethod ({ cls := "WeaveDraftModel", name := "isUp", desc := "(II)Z" } : Jvm.MethodName)) ∈ lw_tbl := lw_at lw_m6 60 rfl
theorem q1327 : (Jvm.Cond.instanceMethod ({ cls := "WeaveDraftModel", name := "isUp", desc := "(II)Z" } : Jvm.MethodName)) ∈ lw_all := lw_g (lw_at lw_m6 61 rfl) rfl
theorem q1328 : (Jvm.Cond.code ({ cls := "WeaveDraftModel", name := "isUp", desc := "(II)Z" } : Jvm.MethodName) prog_15_method_26_code (3 : Nat) (Option.some Jvm.ClassFile.FieldType.boolean)) ∈ lw_all := lw_g (lw_at lw_m6 62 rfl) rfl
theorem q1329 : (Jvm.Cond.methodLink "WeaveDraftModel" (124 : Nat) ({ cls := "WeaveDraftModel", name := "has", desc := "(II)Z" } : Jvm.MethodName)) ∈ lw_all := lw_g (lw_at lw_m6 63 rfl) rfl
theorem q1330 : (Jvm.Cond.static ({ cls := "WeaveDraftModel", name := "has", desc := "(II)Z" } : Jvm.MethodName)) ∈ lw_all := lw_g (lw_at lw_m6 64 rfl) rfl
theorem q1331 : (Jvm.Cond.code ({ cls := "WeaveDraftModel", name := "has", desc := "(II)Z" } : Jvm.MethodName) prog_15_method_3_code (2 : Nat) (Option.some Jvm.ClassFile.FieldType.boolean)) ∈ lw_all := lw_g (lw_at lw_m6 65 rfl) rfl
theorem q1332 : (Jvm.Cond.methodLink "WeaveDraftModel" (138 : Nat) ({ cls := "WeaveDraftModel", name := "run", desc := "(IIZ)I" } : Jvm.MethodName)) ∈ lw_all := lw_g (lw_at lw_m6 66 rfl) rfl
theorem q1333 : (Jvm.Cond.static ({ cls := "WeaveDraftModel", name := "run", desc := "(IIZ)I" } : Jvm.MethodName)) ∈ lw_all := lw_g (lw_at lw_m6 67 rfl) rfl
theorem q1334 : (Jvm.Cond.code ({ cls := "WeaveDraftModel", name := "run", desc := "(IIZ)I" } : Jvm.MethodName) prog_15_method_29_code (6 : Nat) (Option.some Jvm.ClassFile.FieldType.int)) ∈ lw_all := lw_g (lw_at lw_m6 68 rfl) rfl
theorem q1336 : (Jvm.Cond.instanceMethod ({ cls := "WeaveDraftModel", name := "pick", desc := "(II)I" } : Jvm.MethodName)) ∈ lw_all := lw_g (lw_at lw_m6 70 rfl) rfl
theorem q1337 : (Jvm.Cond.selects "WeaveDraftModel" ({ cls := "WeaveDraftModel", name := "pick", desc := "(II)I" } : Jvm.MethodName) ({ cls := "WeaveDraftModel", name := "pick", desc := "(II)I" } : Jvm.MethodName)) ∈ lw_all := lw_g (lw_at lw_m6 71 rfl) rfl
theorem q1338 : (Jvm.Cond.code ({ cls := "WeaveDraftModel", name := "pick", desc := "(II)I" } : Jvm.MethodName) prog_15_method_32_code (3 : Nat) (Option.some Jvm.ClassFile.FieldType.int)) ∈ lw_all := lw_g (lw_at lw_m6 72 rfl) rfl
theorem q1339 : (Jvm.Cond.methodLink "WeaveDraftModel" (142 : Nat) ({ cls := "WeaveDraftModel", name := "isPick", desc := "(I)Z" } : Jvm.MethodName)) ∈ lw_all := lw_g (lw_at lw_m6 73 rfl) rfl
theorem q1340 : (Jvm.Cond.privateMethod ({ cls := "WeaveDraftModel", name := "isPick", desc := "(I)Z" } : Jvm.MethodName)) ∈ lw_tbl := lw_at lw_m6 74 rfl
theorem q1341 : (Jvm.Cond.instanceMethod ({ cls := "WeaveDraftModel", name := "isPick", desc := "(I)Z" } : Jvm.MethodName)) ∈ lw_all := lw_g (lw_at lw_m6 75 rfl) rfl
theorem q1342 : (Jvm.Cond.code ({ cls := "WeaveDraftModel", name := "isPick", desc := "(I)Z" } : Jvm.MethodName) prog_15_method_23_code (2 : Nat) (Option.some Jvm.ClassFile.FieldType.boolean)) ∈ lw_all := lw_g (lw_at lw_m6 76 rfl) rfl
theorem q1343 : (Jvm.Cond.methodLink "WeaveDraftModel" (145 : Nat) ({ cls := "WeaveDraftModel", name := "upPick", desc := "(I)I" } : Jvm.MethodName)) ∈ lw_all := lw_g (lw_at lw_m6 77 rfl) rfl
theorem q1344 : (Jvm.Cond.privateMethod ({ cls := "WeaveDraftModel", name := "upPick", desc := "(I)I" } : Jvm.MethodName)) ∈ lw_tbl := lw_at lw_m6 78 rfl
theorem q1345 : (Jvm.Cond.instanceMethod ({ cls := "WeaveDraftModel", name := "upPick", desc := "(I)I" } : Jvm.MethodName)) ∈ lw_all := lw_g (lw_at lw_m6 79 rfl) rfl
theorem q1346 : (Jvm.Cond.code ({ cls := "WeaveDraftModel", name := "upPick", desc := "(I)I" } : Jvm.MethodName) prog_15_method_28_code (4 : Nat) (Option.some Jvm.ClassFile.FieldType.int)) ∈ lw_all := lw_g (lw_at lw_m6 80 rfl) rfl
theorem q1347 : (Jvm.Cond.methodLink "WeaveDraftModel" (148 : Nat) ({ cls := "WeaveDraftModel", name := "stitches", desc := "(I)I" } : Jvm.MethodName)) ∈ lw_all := lw_g (lw_at lw_m6 81 rfl) rfl
theorem q1348 : (Jvm.Cond.privateMethod ({ cls := "WeaveDraftModel", name := "stitches", desc := "(I)I" } : Jvm.MethodName)) ∈ lw_tbl := lw_at lw_m6 82 rfl
theorem q1349 : (Jvm.Cond.instanceMethod ({ cls := "WeaveDraftModel", name := "stitches", desc := "(I)I" } : Jvm.MethodName)) ∈ lw_all := lw_g (lw_at lw_m6 83 rfl) rfl
theorem q1350 : (Jvm.Cond.code ({ cls := "WeaveDraftModel", name := "stitches", desc := "(I)I" } : Jvm.MethodName) prog_15_method_31_code (4 : Nat) (Option.some Jvm.ClassFile.FieldType.int)) ∈ lw_all := lw_g (lw_at lw_m6 84 rfl) rfl
theorem q1352 : (Jvm.Cond.instanceMethod ({ cls := "WeaveDraftModel", name := "treadle", desc := "(I)I" } : Jvm.MethodName)) ∈ lw_all := lw_g (lw_at lw_m6 86 rfl) rfl
theorem q1353 : (Jvm.Cond.selects "WeaveDraftModel" ({ cls := "WeaveDraftModel", name := "treadle", desc := "(I)I" } : Jvm.MethodName) ({ cls := "WeaveDraftModel", name := "treadle", desc := "(I)I" } : Jvm.MethodName)) ∈ lw_all := lw_g (lw_at lw_m6 87 rfl) rfl
theorem q1354 : (Jvm.Cond.code ({ cls := "WeaveDraftModel", name := "treadle", desc := "(I)I" } : Jvm.MethodName) prog_15_method_33_code (2 : Nat) (Option.some Jvm.ClassFile.FieldType.int)) ∈ lw_all := lw_g (lw_at lw_m6 88 rfl) rfl
theorem q1355 : (Jvm.Cond.methodLink "WeaveDraftModel" (151 : Nat) ({ cls := "WeaveDraftModel", name := "isTreadle", desc := "(I)Z" } : Jvm.MethodName)) ∈ lw_all := lw_g (lw_at lw_m6 89 rfl) rfl
theorem q1356 : (Jvm.Cond.privateMethod ({ cls := "WeaveDraftModel", name := "isTreadle", desc := "(I)Z" } : Jvm.MethodName)) ∈ lw_tbl := lw_at lw_m6 90 rfl
theorem q1357 : (Jvm.Cond.instanceMethod ({ cls := "WeaveDraftModel", name := "isTreadle", desc := "(I)Z" } : Jvm.MethodName)) ∈ lw_all := lw_g (lw_at lw_m6 91 rfl) rfl
theorem q1358 : (Jvm.Cond.code ({ cls := "WeaveDraftModel", name := "isTreadle", desc := "(I)Z" } : Jvm.MethodName) prog_15_method_25_code (2 : Nat) (Option.some Jvm.ClassFile.FieldType.boolean)) ∈ lw_all := lw_g (lw_at lw_m6 92 rfl) rfl
theorem q1360 : (Jvm.Cond.instanceMethod ({ cls := "WeaveDraftModel", name := "cross", desc := "(III)I" } : Jvm.MethodName)) ∈ lw_all := lw_g (lw_at lw_m6 94 rfl) rfl
theorem q1361 : (Jvm.Cond.selects "WeaveDraftModel" ({ cls := "WeaveDraftModel", name := "cross", desc := "(III)I" } : Jvm.MethodName) ({ cls := "WeaveDraftModel", name := "cross", desc := "(III)I" } : Jvm.MethodName)) ∈ lw_all := lw_g (lw_at lw_m6 95 rfl) rfl
theorem q1362 : (Jvm.Cond.code ({ cls := "WeaveDraftModel", name := "cross", desc := "(III)I" } : Jvm.MethodName) prog_15_method_34_code (4 : Nat) (Option.some Jvm.ClassFile.FieldType.int)) ∈ lw_all := lw_g (lw_at lw_m6 96 rfl) rfl
theorem q1364 : (Jvm.Cond.instanceMethod ({ cls := "WeaveDraftModel", name := "draw", desc := "(II)I" } : Jvm.MethodName)) ∈ lw_all := lw_g (lw_at lw_m6 98 rfl) rfl
theorem q1365 : (Jvm.Cond.selects "WeaveDraftModel" ({ cls := "WeaveDraftModel", name := "draw", desc := "(II)I" } : Jvm.MethodName) ({ cls := "WeaveDraftModel", name := "draw", desc := "(II)I" } : Jvm.MethodName)) ∈ lw_all := lw_g (lw_at lw_m6 99 rfl) rfl
theorem q1366 : (Jvm.Cond.code ({ cls := "WeaveDraftModel", name := "draw", desc := "(II)I" } : Jvm.MethodName) prog_15_method_37_code (3 : Nat) (Option.some Jvm.ClassFile.FieldType.int)) ∈ lw_all := lw_g (lw_at lw_m6 100 rfl) rfl
theorem q1367 : (Jvm.Cond.methodLink "WeaveDraftModel" (161 : Nat) ({ cls := "WeaveDraftModel", name := "isShaft", desc := "(I)Z" } : Jvm.MethodName)) ∈ lw_all := lw_g (lw_at lw_m6 101 rfl) rfl
theorem q1368 : (Jvm.Cond.privateMethod ({ cls := "WeaveDraftModel", name := "isShaft", desc := "(I)Z" } : Jvm.MethodName)) ∈ lw_tbl := lw_at lw_m6 102 rfl
theorem q1369 : (Jvm.Cond.instanceMethod ({ cls := "WeaveDraftModel", name := "isShaft", desc := "(I)Z" } : Jvm.MethodName)) ∈ lw_all := lw_g (lw_at lw_m6 103 rfl) rfl
theorem q1370 : (Jvm.Cond.code ({ cls := "WeaveDraftModel", name := "isShaft", desc := "(I)Z" } : Jvm.MethodName) prog_15_method_24_code (2 : Nat) (Option.some Jvm.ClassFile.FieldType.boolean)) ∈ lw_all := lw_g (lw_at lw_m6 104 rfl) rfl
theorem q1371 : (Jvm.Cond.methodLink "WeaveDraftModel" (164 : Nat) ({ cls := "WeaveDraftModel", name := "lays", desc := "(II)I" } : Jvm.MethodName)) ∈ lw_all := lw_g (lw_at lw_m6 105 rfl) rfl
theorem q1372 : (Jvm.Cond.privateMethod ({ cls := "WeaveDraftModel", name := "lays", desc := "(II)I" } : Jvm.MethodName)) ∈ lw_tbl := lw_at lw_m6 106 rfl
theorem q1373 : (Jvm.Cond.instanceMethod ({ cls := "WeaveDraftModel", name := "lays", desc := "(II)I" } : Jvm.MethodName)) ∈ lw_all := lw_g (lw_at lw_m6 107 rfl) rfl
theorem q1374 : (Jvm.Cond.code ({ cls := "WeaveDraftModel", name := "lays", desc := "(II)I" } : Jvm.MethodName) prog_15_method_36_code (4 : Nat) (Option.some Jvm.ClassFile.FieldType.int)) ∈ lw_all := lw_g (lw_at lw_m6 108 rfl) rfl
theorem q1375 : (Jvm.Cond.methodLink "WeaveDraftModel" (158 : Nat) ({ cls := "WeaveDraftModel", name := "keepPast", desc := "()V" } : Jvm.MethodName)) ∈ lw_all := lw_g (lw_at lw_m6 109 rfl) rfl
theorem q1376 : (Jvm.Cond.privateMethod ({ cls := "WeaveDraftModel", name := "keepPast", desc := "()V" } : Jvm.MethodName)) ∈ lw_tbl := lw_at lw_m6 110 rfl
theorem q1377 : (Jvm.Cond.instanceMethod ({ cls := "WeaveDraftModel", name := "keepPast", desc := "()V" } : Jvm.MethodName)) ∈ lw_all := lw_g (lw_at lw_m6 111 rfl) rfl
theorem q1378 : (Jvm.Cond.code ({ cls := "WeaveDraftModel", name := "keepPast", desc := "()V" } : Jvm.MethodName) prog_15_method_35_code (2 : Nat) (Option.none : Option Jvm.ClassFile.FieldType)) ∈ lw_all := lw_g (lw_at lw_m6 112 rfl) rfl
theorem q1379 : (Jvm.Cond.methodLink "WeaveDraftModel" (154 : Nat) ({ cls := "WeaveDraftModel", name := "copyRow", desc := "(II)V" } : Jvm.MethodName)) ∈ lw_all := lw_g (lw_at lw_m6 113 rfl) rfl
theorem q1380 : (Jvm.Cond.privateMethod ({ cls := "WeaveDraftModel", name := "copyRow", desc := "(II)V" } : Jvm.MethodName)) ∈ lw_tbl := lw_at lw_m6 114 rfl
theorem q1381 : (Jvm.Cond.instanceMethod ({ cls := "WeaveDraftModel", name := "copyRow", desc := "(II)V" } : Jvm.MethodName)) ∈ lw_all := lw_g (lw_at lw_m6 115 rfl) rfl
theorem q1382 : (Jvm.Cond.code ({ cls := "WeaveDraftModel", name := "copyRow", desc := "(II)V" } : Jvm.MethodName) prog_15_method_5_code (4 : Nat) (Option.none : Option Jvm.ClassFile.FieldType)) ∈ lw_all := lw_g (lw_at lw_m6 116 rfl) rfl
theorem q1384 : (Jvm.Cond.instanceMethod ({ cls := "WeaveDraftModel", name := "tie", desc := "(II)I" } : Jvm.MethodName)) ∈ lw_all := lw_g (lw_at lw_m6 118 rfl) rfl
theorem q1385 : (Jvm.Cond.selects "WeaveDraftModel" ({ cls := "WeaveDraftModel", name := "tie", desc := "(II)I" } : Jvm.MethodName) ({ cls := "WeaveDraftModel", name := "tie", desc := "(II)I" } : Jvm.MethodName)) ∈ lw_all := lw_g (lw_at lw_m6 119 rfl) rfl
theorem q1386 : (Jvm.Cond.code ({ cls := "WeaveDraftModel", name := "tie", desc := "(II)I" } : Jvm.MethodName) prog_15_method_38_code (3 : Nat) (Option.some Jvm.ClassFile.FieldType.int)) ∈ lw_all := lw_g (lw_at lw_m6 120 rfl) rfl
theorem q1388 : (Jvm.Cond.instanceMethod ({ cls := "WeaveDraftModel", name := "tread", desc := "(II)I" } : Jvm.MethodName)) ∈ lw_all := lw_g (lw_at lw_m6 122 rfl) rfl
theorem q1389 : (Jvm.Cond.selects "WeaveDraftModel" ({ cls := "WeaveDraftModel", name := "tread", desc := "(II)I" } : Jvm.MethodName) ({ cls := "WeaveDraftModel", name := "tread", desc := "(II)I" } : Jvm.MethodName)) ∈ lw_all := lw_g (lw_at lw_m6 123 rfl) rfl
theorem q1390 : (Jvm.Cond.code ({ cls := "WeaveDraftModel", name := "tread", desc := "(II)I" } : Jvm.MethodName) prog_15_method_39_code (3 : Nat) (Option.some Jvm.ClassFile.FieldType.int)) ∈ lw_all := lw_g (lw_at lw_m6 124 rfl) rfl
theorem q1392 : (Jvm.Cond.instanceMethod ({ cls := "WeaveDraftModel", name := "warp", desc := "(II)I" } : Jvm.MethodName)) ∈ lw_all := lw_g (lw_at lw_m6 126 rfl) rfl
theorem q1393 : (Jvm.Cond.selects "WeaveDraftModel" ({ cls := "WeaveDraftModel", name := "warp", desc := "(II)I" } : Jvm.MethodName) ({ cls := "WeaveDraftModel", name := "warp", desc := "(II)I" } : Jvm.MethodName)) ∈ lw_all := lw_g (lw_at lw_m6 127 rfl) rfl
theorem q1394 : (Jvm.Cond.code ({ cls := "WeaveDraftModel", name := "warp", desc := "(II)I" } : Jvm.MethodName) prog_15_method_40_code (3 : Nat) (Option.some Jvm.ClassFile.FieldType.int)) ∈ lw_all := lw_g (lw_at lw_m6 128 rfl) rfl
theorem q1395 : (Jvm.Cond.constantLong "WeaveDraftModel" (168 : Nat) (9 : Int64)) ∈ lw_all := lw_g (lw_at lw_m6 129 rfl) rfl
theorem q1397 : (Jvm.Cond.instanceMethod ({ cls := "WeaveDraftModel", name := "weft", desc := "(II)I" } : Jvm.MethodName)) ∈ lw_all := lw_g (lw_at lw_m6 131 rfl) rfl
theorem q1398 : (Jvm.Cond.selects "WeaveDraftModel" ({ cls := "WeaveDraftModel", name := "weft", desc := "(II)I" } : Jvm.MethodName) ({ cls := "WeaveDraftModel", name := "weft", desc := "(II)I" } : Jvm.MethodName)) ∈ lw_all := lw_g (lw_at lw_m6 132 rfl) rfl
theorem q1399 : (Jvm.Cond.code ({ cls := "WeaveDraftModel", name := "weft", desc := "(II)I" } : Jvm.MethodName) prog_15_method_41_code (3 : Nat) (Option.some Jvm.ClassFile.FieldType.int)) ∈ lw_all := lw_g (lw_at lw_m6 133 rfl) rfl
theorem q1401 : (Jvm.Cond.instanceMethod ({ cls := "WeaveDraftModel", name := "sample", desc := "()I" } : Jvm.MethodName)) ∈ lw_all := lw_g (lw_at lw_m6 135 rfl) rfl
theorem q1402 : (Jvm.Cond.selects "WeaveDraftModel" ({ cls := "WeaveDraftModel", name := "sample", desc := "()I" } : Jvm.MethodName) ({ cls := "WeaveDraftModel", name := "sample", desc := "()I" } : Jvm.MethodName)) ∈ lw_all := lw_g (lw_at lw_m6 136 rfl) rfl
theorem q1403 : (Jvm.Cond.code ({ cls := "WeaveDraftModel", name := "sample", desc := "()I" } : Jvm.MethodName) prog_15_method_47_code (5 : Nat) (Option.some Jvm.ClassFile.FieldType.int)) ∈ lw_all := lw_g (lw_at lw_m6 137 rfl) rfl
theorem q1404 : (Jvm.Cond.methodLink "WeaveDraftModel" (179 : Nat) ({ cls := "WeaveDraftModel", name := "leastShafts", desc := "()I" } : Jvm.MethodName)) ∈ lw_all := lw_g (lw_at lw_m6 138 rfl) rfl
theorem q1405 : (Jvm.Cond.privateMethod ({ cls := "WeaveDraftModel", name := "leastShafts", desc := "()I" } : Jvm.MethodName)) ∈ lw_tbl := lw_at lw_m6 139 rfl
theorem q1406 : (Jvm.Cond.instanceMethod ({ cls := "WeaveDraftModel", name := "leastShafts", desc := "()I" } : Jvm.MethodName)) ∈ lw_all := lw_g (lw_at lw_m6 140 rfl) rfl
theorem q1407 : (Jvm.Cond.code ({ cls := "WeaveDraftModel", name := "leastShafts", desc := "()I" } : Jvm.MethodName) prog_15_method_45_code (3 : Nat) (Option.some Jvm.ClassFile.FieldType.int)) ∈ lw_all := lw_g (lw_at lw_m6 141 rfl) rfl
theorem q1408 : (Jvm.Cond.methodLink "WeaveDraftModel" (173 : Nat) ({ cls := "WeaveDraftModel", name := "shaftOf", desc := "(I)I" } : Jvm.MethodName)) ∈ lw_all := lw_g (lw_at lw_m6 142 rfl) rfl
theorem q1409 : (Jvm.Cond.privateMethod ({ cls := "WeaveDraftModel", name := "shaftOf", desc := "(I)I" } : Jvm.MethodName)) ∈ lw_tbl := lw_at lw_m6 143 rfl
theorem q1410 : (Jvm.Cond.instanceMethod ({ cls := "WeaveDraftModel", name := "shaftOf", desc := "(I)I" } : Jvm.MethodName)) ∈ lw_all := lw_g (lw_at lw_m6 144 rfl) rfl
theorem q1411 : (Jvm.Cond.code ({ cls := "WeaveDraftModel", name := "shaftOf", desc := "(I)I" } : Jvm.MethodName) prog_15_method_43_code (6 : Nat) (Option.some Jvm.ClassFile.FieldType.int)) ∈ lw_all := lw_g (lw_at lw_m6 145 rfl) rfl
theorem q1412 : (Jvm.Cond.methodLink "WeaveDraftModel" (170 : Nat) ({ cls := "WeaveDraftModel", name := "column", desc := "(I)I" } : Jvm.MethodName)) ∈ lw_all := lw_g (lw_at lw_m6 146 rfl) rfl
theorem q1413 : (Jvm.Cond.privateMethod ({ cls := "WeaveDraftModel", name := "column", desc := "(I)I" } : Jvm.MethodName)) ∈ lw_tbl := lw_at lw_m6 147 rfl
theorem q1414 : (Jvm.Cond.instanceMethod ({ cls := "WeaveDraftModel", name := "column", desc := "(I)I" } : Jvm.MethodName)) ∈ lw_all := lw_g (lw_at lw_m6 148 rfl) rfl
theorem q1415 : (Jvm.Cond.code ({ cls := "WeaveDraftModel", name := "column", desc := "(I)I" } : Jvm.MethodName) prog_15_method_42_code (4 : Nat) (Option.some Jvm.ClassFile.FieldType.int)) ∈ lw_all := lw_g (lw_at lw_m6 149 rfl) rfl
theorem q1416 : (Jvm.Cond.methodLink "WeaveDraftModel" (182 : Nat) ({ cls := "WeaveDraftModel", name := "leastTreadles", desc := "()I" } : Jvm.MethodName)) ∈ lw_all := lw_g (lw_at lw_m6 150 rfl) rfl
theorem q1417 : (Jvm.Cond.privateMethod ({ cls := "WeaveDraftModel", name := "leastTreadles", desc := "()I" } : Jvm.MethodName)) ∈ lw_tbl := lw_at lw_m6 151 rfl
theorem q1418 : (Jvm.Cond.instanceMethod ({ cls := "WeaveDraftModel", name := "leastTreadles", desc := "()I" } : Jvm.MethodName)) ∈ lw_all := lw_g (lw_at lw_m6 152 rfl) rfl
theorem q1419 : (Jvm.Cond.code ({ cls := "WeaveDraftModel", name := "leastTreadles", desc := "()I" } : Jvm.MethodName) prog_15_method_46_code (3 : Nat) (Option.some Jvm.ClassFile.FieldType.int)) ∈ lw_all := lw_g (lw_at lw_m6 153 rfl) rfl
theorem q1420 : (Jvm.Cond.methodLink "WeaveDraftModel" (176 : Nat) ({ cls := "WeaveDraftModel", name := "treadleOf", desc := "(I)I" } : Jvm.MethodName)) ∈ lw_all := lw_g (lw_at lw_m6 154 rfl) rfl
theorem q1421 : (Jvm.Cond.privateMethod ({ cls := "WeaveDraftModel", name := "treadleOf", desc := "(I)I" } : Jvm.MethodName)) ∈ lw_tbl := lw_at lw_m6 155 rfl
theorem q1422 : (Jvm.Cond.instanceMethod ({ cls := "WeaveDraftModel", name := "treadleOf", desc := "(I)I" } : Jvm.MethodName)) ∈ lw_all := lw_g (lw_at lw_m6 156 rfl) rfl
theorem q1423 : (Jvm.Cond.code ({ cls := "WeaveDraftModel", name := "treadleOf", desc := "(I)I" } : Jvm.MethodName) prog_15_method_44_code (6 : Nat) (Option.some Jvm.ClassFile.FieldType.int)) ∈ lw_all := lw_g (lw_at lw_m6 157 rfl) rfl
theorem q1425 : (Jvm.Cond.instanceMethod ({ cls := "WeaveDraftModel", name := "turn", desc := "()I" } : Jvm.MethodName)) ∈ lw_all := lw_g (lw_at lw_m6 159 rfl) rfl
theorem q1426 : (Jvm.Cond.selects "WeaveDraftModel" ({ cls := "WeaveDraftModel", name := "turn", desc := "()I" } : Jvm.MethodName) ({ cls := "WeaveDraftModel", name := "turn", desc := "()I" } : Jvm.MethodName)) ∈ lw_all := lw_g (lw_at lw_m6 160 rfl) rfl
theorem q1427 : (Jvm.Cond.code ({ cls := "WeaveDraftModel", name := "turn", desc := "()I" } : Jvm.MethodName) prog_15_method_49_code (3 : Nat) (Option.some Jvm.ClassFile.FieldType.int)) ∈ lw_all := lw_g (lw_at lw_m6 161 rfl) rfl
theorem q1428 : (Jvm.Cond.methodLink "WeaveDraftModel" (185 : Nat) ({ cls := "WeaveDraftModel", name := "swap", desc := "(II)V" } : Jvm.MethodName)) ∈ lw_all := lw_g (lw_at lw_m6 162 rfl) rfl
theorem q1429 : (Jvm.Cond.privateMethod ({ cls := "WeaveDraftModel", name := "swap", desc := "(II)V" } : Jvm.MethodName)) ∈ lw_tbl := lw_at lw_m6 163 rfl
theorem q1430 : (Jvm.Cond.instanceMethod ({ cls := "WeaveDraftModel", name := "swap", desc := "(II)V" } : Jvm.MethodName)) ∈ lw_all := lw_g (lw_at lw_m6 164 rfl) rfl
theorem q1431 : (Jvm.Cond.code ({ cls := "WeaveDraftModel", name := "swap", desc := "(II)V" } : Jvm.MethodName) prog_15_method_48_code (4 : Nat) (Option.none : Option Jvm.ClassFile.FieldType)) ∈ lw_all := lw_g (lw_at lw_m6 165 rfl) rfl
theorem q1433 : (Jvm.Cond.instanceMethod ({ cls := "WeaveDraftModel", name := "undo", desc := "()I" } : Jvm.MethodName)) ∈ lw_all := lw_g (lw_at lw_m6 167 rfl) rfl
theorem q1434 : (Jvm.Cond.selects "WeaveDraftModel" ({ cls := "WeaveDraftModel", name := "undo", desc := "()I" } : Jvm.MethodName) ({ cls := "WeaveDraftModel", name := "undo", desc := "()I" } : Jvm.MethodName)) ∈ lw_all := lw_g (lw_at lw_m6 168 rfl) rfl
theorem q1435 : (Jvm.Cond.code ({ cls := "WeaveDraftModel", name := "undo", desc := "()I" } : Jvm.MethodName) prog_15_method_50_code (1 : Nat) (Option.some Jvm.ClassFile.FieldType.int)) ∈ lw_all := lw_g (lw_at lw_m6 169 rfl) rfl
theorem q1437 : (Jvm.Cond.instanceMethod ({ cls := "WeaveDraftModel", name := "keep", desc := "(I)I" } : Jvm.MethodName)) ∈ lw_all := lw_g (lw_at lw_m6 171 rfl) rfl
theorem q1438 : (Jvm.Cond.selects "WeaveDraftModel" ({ cls := "WeaveDraftModel", name := "keep", desc := "(I)I" } : Jvm.MethodName) ({ cls := "WeaveDraftModel", name := "keep", desc := "(I)I" } : Jvm.MethodName)) ∈ lw_all := lw_g (lw_at lw_m6 172 rfl) rfl
theorem q1439 : (Jvm.Cond.code ({ cls := "WeaveDraftModel", name := "keep", desc := "(I)I" } : Jvm.MethodName) prog_15_method_51_code (2 : Nat) (Option.some Jvm.ClassFile.FieldType.int)) ∈ lw_all := lw_g (lw_at lw_m6 173 rfl) rfl
theorem q1441 : (Jvm.Cond.instanceMethod ({ cls := "WeaveDraftModel", name := "back", desc := "(I)I" } : Jvm.MethodName)) ∈ lw_all := lw_g (lw_at lw_m6 175 rfl) rfl
theorem q1442 : (Jvm.Cond.selects "WeaveDraftModel" ({ cls := "WeaveDraftModel", name := "back", desc := "(I)I" } : Jvm.MethodName) ({ cls := "WeaveDraftModel", name := "back", desc := "(I)I" } : Jvm.MethodName)) ∈ lw_all := lw_g (lw_at lw_m6 176 rfl) rfl
theorem q1443 : (Jvm.Cond.code ({ cls := "WeaveDraftModel", name := "back", desc := "(I)I" } : Jvm.MethodName) prog_15_method_52_code (2 : Nat) (Option.some Jvm.ClassFile.FieldType.int)) ∈ lw_all := lw_g (lw_at lw_m6 177 rfl) rfl
theorem q1445 : (Jvm.Cond.instanceMethod ({ cls := "WeaveDraftModel", name := "least", desc := "(I)I" } : Jvm.MethodName)) ∈ lw_all := lw_g (lw_at lw_m6 179 rfl) rfl
theorem q1446 : (Jvm.Cond.selects "WeaveDraftModel" ({ cls := "WeaveDraftModel", name := "least", desc := "(I)I" } : Jvm.MethodName) ({ cls := "WeaveDraftModel", name := "least", desc := "(I)I" } : Jvm.MethodName)) ∈ lw_all := lw_g (lw_at lw_m6 180 rfl) rfl
theorem q1447 : (Jvm.Cond.code ({ cls := "WeaveDraftModel", name := "least", desc := "(I)I" } : Jvm.MethodName) prog_15_method_54_code (2 : Nat) (Option.some Jvm.ClassFile.FieldType.int)) ∈ lw_all := lw_g (lw_at lw_m6 181 rfl) rfl
theorem q1448 : (Jvm.Cond.methodLink "WeaveDraftModel" (188 : Nat) ({ cls := "WeaveDraftModel", name := "isSame", desc := "()Z" } : Jvm.MethodName)) ∈ lw_all := lw_g (lw_at lw_m6 182 rfl) rfl
theorem q1449 : (Jvm.Cond.privateMethod ({ cls := "WeaveDraftModel", name := "isSame", desc := "()Z" } : Jvm.MethodName)) ∈ lw_tbl := lw_at lw_m6 183 rfl
theorem q1450 : (Jvm.Cond.instanceMethod ({ cls := "WeaveDraftModel", name := "isSame", desc := "()Z" } : Jvm.MethodName)) ∈ lw_all := lw_g (lw_at lw_m6 184 rfl) rfl
theorem q1451 : (Jvm.Cond.code ({ cls := "WeaveDraftModel", name := "isSame", desc := "()Z" } : Jvm.MethodName) prog_15_method_53_code (3 : Nat) (Option.some Jvm.ClassFile.FieldType.boolean)) ∈ lw_all := lw_g (lw_at lw_m6 185 rfl) rfl
theorem q1453 : (Jvm.Cond.instanceMethod ({ cls := "WeaveDraftModel", name := "sampled", desc := "(II)I" } : Jvm.MethodName)) ∈ lw_all := lw_g (lw_at lw_m6 187 rfl) rfl
theorem q1454 : (Jvm.Cond.selects "WeaveDraftModel" ({ cls := "WeaveDraftModel", name := "sampled", desc := "(II)I" } : Jvm.MethodName) ({ cls := "WeaveDraftModel", name := "sampled", desc := "(II)I" } : Jvm.MethodName)) ∈ lw_all := lw_g (lw_at lw_m6 188 rfl) rfl
theorem q1455 : (Jvm.Cond.code ({ cls := "WeaveDraftModel", name := "sampled", desc := "(II)I" } : Jvm.MethodName) prog_15_method_55_code (3 : Nat) (Option.some Jvm.ClassFile.FieldType.int)) ∈ lw_all := lw_g (lw_at lw_m6 189 rfl) rfl
theorem q1457 : (Jvm.Cond.instanceMethod ({ cls := "WeaveDraftModel", name := "tamed", desc := "(II)I" } : Jvm.MethodName)) ∈ lw_all := lw_g (lw_at lw_m6 191 rfl) rfl
theorem q1458 : (Jvm.Cond.selects "WeaveDraftModel" ({ cls := "WeaveDraftModel", name := "tamed", desc := "(II)I" } : Jvm.MethodName) ({ cls := "WeaveDraftModel", name := "tamed", desc := "(II)I" } : Jvm.MethodName)) ∈ lw_all := lw_g (lw_at lw_m6 192 rfl) rfl
theorem q1459 : (Jvm.Cond.code ({ cls := "WeaveDraftModel", name := "tamed", desc := "(II)I" } : Jvm.MethodName) prog_15_method_56_code (7 : Nat) (Option.some Jvm.ClassFile.FieldType.int)) ∈ lw_all := lw_g (lw_at lw_m6 193 rfl) rfl
theorem q1460 : (Jvm.Cond.constantLong "WeaveDraftModel" (191 : Nat) (12 : Int64)) ∈ lw_all := lw_g (lw_at lw_m6 194 rfl) rfl
theorem q1461 : (Jvm.Cond.methodLink "WeaveDraftModel" (193 : Nat) ({ cls := "WeaveDraftModel", name := "ones", desc := "(I)I" } : Jvm.MethodName)) ∈ lw_all := lw_g (lw_at lw_m6 195 rfl) rfl
theorem q1462 : (Jvm.Cond.static ({ cls := "WeaveDraftModel", name := "ones", desc := "(I)I" } : Jvm.MethodName)) ∈ lw_all := lw_g (lw_at lw_m6 196 rfl) rfl
theorem q1463 : (Jvm.Cond.code ({ cls := "WeaveDraftModel", name := "ones", desc := "(I)I" } : Jvm.MethodName) prog_15_method_4_code (3 : Nat) (Option.some Jvm.ClassFile.FieldType.int)) ∈ lw_all := lw_g (lw_at lw_m6 197 rfl) rfl
theorem q1465 : (Jvm.Cond.instanceMethod ({ cls := "WeaveDraftModel", name := "changed", desc := "(II)I" } : Jvm.MethodName)) ∈ lw_all := lw_g (lw_at lw_m6 199 rfl) rfl
theorem q1466 : (Jvm.Cond.selects "WeaveDraftModel" ({ cls := "WeaveDraftModel", name := "changed", desc := "(II)I" } : Jvm.MethodName) ({ cls := "WeaveDraftModel", name := "changed", desc := "(II)I" } : Jvm.MethodName)) ∈ lw_all := lw_g (lw_at lw_m6 200 rfl) rfl
theorem q1467 : (Jvm.Cond.code ({ cls := "WeaveDraftModel", name := "changed", desc := "(II)I" } : Jvm.MethodName) prog_15_method_58_code (4 : Nat) (Option.some Jvm.ClassFile.FieldType.int)) ∈ lw_all := lw_g (lw_at lw_m6 201 rfl) rfl
theorem q1468 : (Jvm.Cond.methodLink "WeaveDraftModel" (196 : Nat) ({ cls := "WeaveDraftModel", name := "longestOfPicks", desc := "()I" } : Jvm.MethodName)) ∈ lw_all := lw_g (lw_at lw_m6 202 rfl) rfl
theorem q1469 : (Jvm.Cond.privateMethod ({ cls := "WeaveDraftModel", name := "longestOfPicks", desc := "()I" } : Jvm.MethodName)) ∈ lw_tbl := lw_at lw_m6 203 rfl
theorem q1470 : (Jvm.Cond.instanceMethod ({ cls := "WeaveDraftModel", name := "longestOfPicks", desc := "()I" } : Jvm.MethodName)) ∈ lw_all := lw_g (lw_at lw_m6 204 rfl) rfl
theorem q1471 : (Jvm.Cond.code ({ cls := "WeaveDraftModel", name := "longestOfPicks", desc := "()I" } : Jvm.MethodName) prog_15_method_68_code (5 : Nat) (Option.some Jvm.ClassFile.FieldType.int)) ∈ lw_all := lw_g (lw_at lw_m6 205 rfl) rfl
theorem q1473 : (Jvm.Cond.instanceMethod ({ cls := "WeaveDraftModel", name := "spool", desc := "(I)I" } : Jvm.MethodName)) ∈ lw_all := lw_g (lw_at lw_m6 207 rfl) rfl
theorem q1474 : (Jvm.Cond.selects "WeaveDraftModel" ({ cls := "WeaveDraftModel", name := "spool", desc := "(I)I" } : Jvm.MethodName) ({ cls := "WeaveDraftModel", name := "spool", desc := "(I)I" } : Jvm.MethodName)) ∈ lw_all := lw_g (lw_at lw_m6 208 rfl) rfl
theorem q1475 : (Jvm.Cond.code ({ cls := "WeaveDraftModel", name := "spool", desc := "(I)I" } : Jvm.MethodName) prog_15_method_60_code (2 : Nat) (Option.some Jvm.ClassFile.FieldType.int)) ∈ lw_all := lw_g (lw_at lw_m6 209 rfl) rfl
theorem q1476 : (Jvm.Cond.methodLink "WeaveDraftModel" (201 : Nat) ({ cls := "WeaveDraftModel", name := "isSpool", desc := "(I)Z" } : Jvm.MethodName)) ∈ lw_all := lw_g (lw_at lw_m6 210 rfl) rfl
theorem q1477 : (Jvm.Cond.static ({ cls := "WeaveDraftModel", name := "isSpool", desc := "(I)Z" } : Jvm.MethodName)) ∈ lw_all := lw_g (lw_at lw_m6 211 rfl) rfl
theorem q1478 : (Jvm.Cond.code ({ cls := "WeaveDraftModel", name := "isSpool", desc := "(I)Z" } : Jvm.MethodName) prog_15_method_59_code (1 : Nat) (Option.some Jvm.ClassFile.FieldType.boolean)) ∈ lw_all := lw_g (lw_at lw_m6 212 rfl) rfl
theorem q1479 : (Jvm.Cond.constantLong "WeaveDraftModel" (199 : Nat) (2 : Int64)) ∈ lw_all := lw_g (lw_at lw_m6 213 rfl) rfl
theorem q1481 : (Jvm.Cond.instanceMethod ({ cls := "WeaveDraftModel", name := "wind", desc := "(II)I" } : Jvm.MethodName)) ∈ lw_all := lw_g (lw_at lw_m6 215 rfl) rfl
theorem q1482 : (Jvm.Cond.selects "WeaveDraftModel" ({ cls := "WeaveDraftModel", name := "wind", desc := "(II)I" } : Jvm.MethodName) ({ cls := "WeaveDraftModel", name := "wind", desc := "(II)I" } : Jvm.MethodName)) ∈ lw_all := lw_g (lw_at lw_m6 216 rfl) rfl
theorem q1483 : (Jvm.Cond.code ({ cls := "WeaveDraftModel", name := "wind", desc := "(II)I" } : Jvm.MethodName) prog_15_method_61_code (3 : Nat) (Option.some Jvm.ClassFile.FieldType.int)) ∈ lw_all := lw_g (lw_at lw_m6 217 rfl) rfl
theorem q1484 : (Jvm.Cond.constantLong "WeaveDraftModel" (204 : Nat) (99 : Int64)) ∈ lw_all := lw_g (lw_at lw_m6 218 rfl) rfl
theorem q1486 : (Jvm.Cond.instanceMethod ({ cls := "WeaveDraftModel", name := "pull", desc := "(II)I" } : Jvm.MethodName)) ∈ lw_all := lw_g (lw_at lw_m6 220 rfl) rfl
theorem q1487 : (Jvm.Cond.selects "WeaveDraftModel" ({ cls := "WeaveDraftModel", name := "pull", desc := "(II)I" } : Jvm.MethodName) ({ cls := "WeaveDraftModel", name := "pull", desc := "(II)I" } : Jvm.MethodName)) ∈ lw_all := lw_g (lw_at lw_m6 221 rfl) rfl
theorem q1488 : (Jvm.Cond.code ({ cls := "WeaveDraftModel", name := "pull", desc := "(II)I" } : Jvm.MethodName) prog_15_method_63_code (5 : Nat) (Option.some Jvm.ClassFile.FieldType.int)) ∈ lw_all := lw_g (lw_at lw_m6 222 rfl) rfl
theorem q1489 : (Jvm.Cond.constantLong "WeaveDraftModel" (206 : Nat) (999 : Int64)) ∈ lw_all := lw_g (lw_at lw_m6 223 rfl) rfl
theorem q1490 : (Jvm.Cond.methodLink "WeaveDraftModel" (208 : Nat) ({ cls := "WeaveDraftModel", name := "all", desc := "(I)I" } : Jvm.MethodName)) ∈ lw_all := lw_g (lw_at lw_m6 224 rfl) rfl
theorem q1491 : (Jvm.Cond.privateMethod ({ cls := "WeaveDraftModel", name := "all", desc := "(I)I" } : Jvm.MethodName)) ∈ lw_tbl := lw_at lw_m6 225 rfl
theorem q1492 : (Jvm.Cond.instanceMethod ({ cls := "WeaveDraftModel", name := "all", desc := "(I)I" } : Jvm.MethodName)) ∈ lw_all := lw_g (lw_at lw_m6 226 rfl) rfl
theorem q1493 : (Jvm.Cond.code ({ cls := "WeaveDraftModel", name := "all", desc := "(I)I" } : Jvm.MethodName) prog_15_method_62_code (4 : Nat) (Option.some Jvm.ClassFile.FieldType.int)) ∈ lw_all := lw_g (lw_at lw_m6 227 rfl) rfl
theorem q1495 : (Jvm.Cond.instanceMethod ({ cls := "WeaveDraftModel", name := "knot", desc := "(I)I" } : Jvm.MethodName)) ∈ lw_all := lw_g (lw_at lw_m6 229 rfl) rfl
theorem q1496 : (Jvm.Cond.selects "WeaveDraftModel" ({ cls := "WeaveDraftModel", name := "knot", desc := "(I)I" } : Jvm.MethodName) ({ cls := "WeaveDraftModel", name := "knot", desc := "(I)I" } : Jvm.MethodName)) ∈ lw_all := lw_g (lw_at lw_m6 230 rfl) rfl
theorem q1497 : (Jvm.Cond.code ({ cls := "WeaveDraftModel", name := "knot", desc := "(I)I" } : Jvm.MethodName) prog_15_method_64_code (4 : Nat) (Option.some Jvm.ClassFile.FieldType.int)) ∈ lw_all := lw_g (lw_at lw_m6 231 rfl) rfl
theorem q1499 : (Jvm.Cond.instanceMethod ({ cls := "WeaveDraftModel", name := "measure", desc := "(II)I" } : Jvm.MethodName)) ∈ lw_all := lw_g (lw_at lw_m6 233 rfl) rfl
theorem q1500 : (Jvm.Cond.selects "WeaveDraftModel" ({ cls := "WeaveDraftModel", name := "measure", desc := "(II)I" } : Jvm.MethodName) ({ cls := "WeaveDraftModel", name := "measure", desc := "(II)I" } : Jvm.MethodName)) ∈ lw_all := lw_g (lw_at lw_m6 234 rfl) rfl
theorem q1501 : (Jvm.Cond.code ({ cls := "WeaveDraftModel", name := "measure", desc := "(II)I" } : Jvm.MethodName) prog_15_method_65_code (8 : Nat) (Option.some Jvm.ClassFile.FieldType.int)) ∈ lw_all := lw_g (lw_at lw_m6 235 rfl) rfl
theorem q1502 : (Jvm.Cond.constantLong "WeaveDraftModel" (211 : Nat) (3 : Int64)) ∈ lw_all := lw_g (lw_at lw_m6 236 rfl) rfl
theorem q1504 : (Jvm.Cond.instanceMethod ({ cls := "WeaveDraftModel", name := "rewind", desc := "(II)I" } : Jvm.MethodName)) ∈ lw_all := lw_g (lw_at lw_m6 238 rfl) rfl
theorem q1505 : (Jvm.Cond.selects "WeaveDraftModel" ({ cls := "WeaveDraftModel", name := "rewind", desc := "(II)I" } : Jvm.MethodName) ({ cls := "WeaveDraftModel", name := "rewind", desc := "(II)I" } : Jvm.MethodName)) ∈ lw_all := lw_g (lw_at lw_m6 239 rfl) rfl
theorem q1506 : (Jvm.Cond.code ({ cls := "WeaveDraftModel", name := "rewind", desc := "(II)I" } : Jvm.MethodName) prog_15_method_66_code (3 : Nat) (Option.some Jvm.ClassFile.FieldType.int)) ∈ lw_all := lw_g (lw_at lw_m7 0 rfl) rfl
theorem q1508 : (Jvm.Cond.instanceMethod ({ cls := "WeaveDraftModel", name := "drop", desc := "(I)I" } : Jvm.MethodName)) ∈ lw_all := lw_g (lw_at lw_m7 2 rfl) rfl
theorem q1509 : (Jvm.Cond.selects "WeaveDraftModel" ({ cls := "WeaveDraftModel", name := "drop", desc := "(I)I" } : Jvm.MethodName) ({ cls := "WeaveDraftModel", name := "drop", desc := "(I)I" } : Jvm.MethodName)) ∈ lw_all := lw_g (lw_at lw_m7 3 rfl) rfl
theorem q1510 : (Jvm.Cond.code ({ cls := "WeaveDraftModel", name := "drop", desc := "(I)I" } : Jvm.MethodName) prog_15_method_67_code (3 : Nat) (Option.some Jvm.ClassFile.FieldType.int)) ∈ lw_all := lw_g (lw_at lw_m7 4 rfl) rfl
theorem q1512 : (Jvm.Cond.instanceMethod ({ cls := "WeaveDraftModel", name := "count", desc := "(I)I" } : Jvm.MethodName)) ∈ lw_all := lw_g (lw_at lw_m7 6 rfl) rfl
theorem q1513 : (Jvm.Cond.selects "WeaveDraftModel" ({ cls := "WeaveDraftModel", name := "count", desc := "(I)I" } : Jvm.MethodName) ({ cls := "WeaveDraftModel", name := "count", desc := "(I)I" } : Jvm.MethodName)) ∈ lw_all := lw_g (lw_at lw_m7 7 rfl) rfl
theorem q1514 : (Jvm.Cond.code ({ cls := "WeaveDraftModel", name := "count", desc := "(I)I" } : Jvm.MethodName) prog_15_method_77_code (2 : Nat) (Option.some Jvm.ClassFile.FieldType.int)) ∈ lw_all := lw_g (lw_at lw_m7 8 rfl) rfl
theorem q1515 : (Jvm.Cond.methodLink "WeaveDraftModel" (216 : Nat) ({ cls := "WeaveDraftModel", name := "longestOfEnds", desc := "()I" } : Jvm.MethodName)) ∈ lw_all := lw_g (lw_at lw_m7 9 rfl) rfl
theorem q1516 : (Jvm.Cond.privateMethod ({ cls := "WeaveDraftModel", name := "longestOfEnds", desc := "()I" } : Jvm.MethodName)) ∈ lw_tbl := lw_at lw_m7 10 rfl
theorem q1517 : (Jvm.Cond.instanceMethod ({ cls := "WeaveDraftModel", name := "longestOfEnds", desc := "()I" } : Jvm.MethodName)) ∈ lw_all := lw_g (lw_at lw_m7 11 rfl) rfl
theorem q1518 : (Jvm.Cond.code ({ cls := "WeaveDraftModel", name := "longestOfEnds", desc := "()I" } : Jvm.MethodName) prog_15_method_57_code (5 : Nat) (Option.some Jvm.ClassFile.FieldType.int)) ∈ lw_all := lw_g (lw_at lw_m7 12 rfl) rfl
theorem q1519 : (Jvm.Cond.methodLink "WeaveDraftModel" (219 : Nat) ({ cls := "WeaveDraftModel", name := "repeatOfEnds", desc := "()I" } : Jvm.MethodName)) ∈ lw_all := lw_g (lw_at lw_m7 13 rfl) rfl
theorem q1520 : (Jvm.Cond.privateMethod ({ cls := "WeaveDraftModel", name := "repeatOfEnds", desc := "()I" } : Jvm.MethodName)) ∈ lw_tbl := lw_at lw_m7 14 rfl
theorem q1521 : (Jvm.Cond.instanceMethod ({ cls := "WeaveDraftModel", name := "repeatOfEnds", desc := "()I" } : Jvm.MethodName)) ∈ lw_all := lw_g (lw_at lw_m7 15 rfl) rfl
theorem q1522 : (Jvm.Cond.code ({ cls := "WeaveDraftModel", name := "repeatOfEnds", desc := "()I" } : Jvm.MethodName) prog_15_method_69_code (4 : Nat) (Option.some Jvm.ClassFile.FieldType.int)) ∈ lw_all := lw_g (lw_at lw_m7 16 rfl) rfl
theorem q1523 : (Jvm.Cond.methodLink "WeaveDraftModel" (222 : Nat) ({ cls := "WeaveDraftModel", name := "repeatOfPicks", desc := "()I" } : Jvm.MethodName)) ∈ lw_all := lw_g (lw_at lw_m7 17 rfl) rfl
theorem q1524 : (Jvm.Cond.privateMethod ({ cls := "WeaveDraftModel", name := "repeatOfPicks", desc := "()I" } : Jvm.MethodName)) ∈ lw_tbl := lw_at lw_m7 18 rfl
theorem q1525 : (Jvm.Cond.instanceMethod ({ cls := "WeaveDraftModel", name := "repeatOfPicks", desc := "()I" } : Jvm.MethodName)) ∈ lw_all := lw_g (lw_at lw_m7 19 rfl) rfl
theorem q1526 : (Jvm.Cond.code ({ cls := "WeaveDraftModel", name := "repeatOfPicks", desc := "()I" } : Jvm.MethodName) prog_15_method_70_code (4 : Nat) (Option.some Jvm.ClassFile.FieldType.int)) ∈ lw_all := lw_g (lw_at lw_m7 20 rfl) rfl
theorem q1527 : (Jvm.Cond.methodLink "WeaveDraftModel" (225 : Nat) ({ cls := "WeaveDraftModel", name := "allStitches", desc := "()I" } : Jvm.MethodName)) ∈ lw_all := lw_g (lw_at lw_m7 21 rfl) rfl
theorem q1528 : (Jvm.Cond.privateMethod ({ cls := "WeaveDraftModel", name := "allStitches", desc := "()I" } : Jvm.MethodName)) ∈ lw_tbl := lw_at lw_m7 22 rfl
theorem q1529 : (Jvm.Cond.instanceMethod ({ cls := "WeaveDraftModel", name := "allStitches", desc := "()I" } : Jvm.MethodName)) ∈ lw_all := lw_g (lw_at lw_m7 23 rfl) rfl
theorem q1530 : (Jvm.Cond.code ({ cls := "WeaveDraftModel", name := "allStitches", desc := "()I" } : Jvm.MethodName) prog_15_method_71_code (3 : Nat) (Option.some Jvm.ClassFile.FieldType.int)) ∈ lw_all := lw_g (lw_at lw_m7 24 rfl) rfl
theorem q1531 : (Jvm.Cond.methodLink "WeaveDraftModel" (228 : Nat) ({ cls := "WeaveDraftModel", name := "alike", desc := "()I" } : Jvm.MethodName)) ∈ lw_all := lw_g (lw_at lw_m7 25 rfl) rfl
theorem q1532 : (Jvm.Cond.privateMethod ({ cls := "WeaveDraftModel", name := "alike", desc := "()I" } : Jvm.MethodName)) ∈ lw_tbl := lw_at lw_m7 26 rfl
theorem q1533 : (Jvm.Cond.instanceMethod ({ cls := "WeaveDraftModel", name := "alike", desc := "()I" } : Jvm.MethodName)) ∈ lw_all := lw_g (lw_at lw_m7 27 rfl) rfl
theorem q1534 : (Jvm.Cond.code ({ cls := "WeaveDraftModel", name := "alike", desc := "()I" } : Jvm.MethodName) prog_15_method_73_code (4 : Nat) (Option.some Jvm.ClassFile.FieldType.int)) ∈ lw_all := lw_g (lw_at lw_m7 28 rfl) rfl
theorem q1535 : (Jvm.Cond.methodLink "WeaveDraftModel" (213 : Nat) ({ cls := "WeaveDraftModel", name := "areAlike", desc := "(II)Z" } : Jvm.MethodName)) ∈ lw_all := lw_g (lw_at lw_m7 29 rfl) rfl
theorem q1536 : (Jvm.Cond.privateMethod ({ cls := "WeaveDraftModel", name := "areAlike", desc := "(II)Z" } : Jvm.MethodName)) ∈ lw_tbl := lw_at lw_m7 30 rfl
theorem q1537 : (Jvm.Cond.instanceMethod ({ cls := "WeaveDraftModel", name := "areAlike", desc := "(II)Z" } : Jvm.MethodName)) ∈ lw_all := lw_g (lw_at lw_m7 31 rfl) rfl
theorem q1538 : (Jvm.Cond.code ({ cls := "WeaveDraftModel", name := "areAlike", desc := "(II)Z" } : Jvm.MethodName) prog_15_method_72_code (5 : Nat) (Option.some Jvm.ClassFile.FieldType.boolean)) ∈ lw_all := lw_g (lw_at lw_m7 32 rfl) rfl
theorem q1539 : (Jvm.Cond.methodLink "WeaveDraftModel" (231 : Nat) ({ cls := "WeaveDraftModel", name := "idle", desc := "(III)I" } : Jvm.MethodName)) ∈ lw_all := lw_g (lw_at lw_m7 33 rfl) rfl
theorem q1540 : (Jvm.Cond.privateMethod ({ cls := "WeaveDraftModel", name := "idle", desc := "(III)I" } : Jvm.MethodName)) ∈ lw_tbl := lw_at lw_m7 34 rfl
theorem q1541 : (Jvm.Cond.instanceMethod ({ cls := "WeaveDraftModel", name := "idle", desc := "(III)I" } : Jvm.MethodName)) ∈ lw_all := lw_g (lw_at lw_m7 35 rfl) rfl
theorem q1542 : (Jvm.Cond.code ({ cls := "WeaveDraftModel", name := "idle", desc := "(III)I" } : Jvm.MethodName) prog_15_method_74_code (6 : Nat) (Option.some Jvm.ClassFile.FieldType.int)) ∈ lw_all := lw_g (lw_at lw_m7 36 rfl) rfl
theorem q1543 : (Jvm.Cond.methodLink "WeaveDraftModel" (235 : Nat) ({ cls := "WeaveDraftModel", name := "allUp", desc := "()I" } : Jvm.MethodName)) ∈ lw_all := lw_g (lw_at lw_m7 37 rfl) rfl
theorem q1544 : (Jvm.Cond.privateMethod ({ cls := "WeaveDraftModel", name := "allUp", desc := "()I" } : Jvm.MethodName)) ∈ lw_tbl := lw_at lw_m7 38 rfl
theorem q1545 : (Jvm.Cond.instanceMethod ({ cls := "WeaveDraftModel", name := "allUp", desc := "()I" } : Jvm.MethodName)) ∈ lw_all := lw_g (lw_at lw_m7 39 rfl) rfl
theorem q1546 : (Jvm.Cond.code ({ cls := "WeaveDraftModel", name := "allUp", desc := "()I" } : Jvm.MethodName) prog_15_method_75_code (3 : Nat) (Option.some Jvm.ClassFile.FieldType.int)) ∈ lw_all := lw_g (lw_at lw_m7 40 rfl) rfl
theorem q1547 : (Jvm.Cond.methodLink "WeaveDraftModel" (238 : Nat) ({ cls := "WeaveDraftModel", name := "allThreads", desc := "()I" } : Jvm.MethodName)) ∈ lw_all := lw_g (lw_at lw_m7 41 rfl) rfl
theorem q1548 : (Jvm.Cond.privateMethod ({ cls := "WeaveDraftModel", name := "allThreads", desc := "()I" } : Jvm.MethodName)) ∈ lw_tbl := lw_at lw_m7 42 rfl
theorem q1549 : (Jvm.Cond.instanceMethod ({ cls := "WeaveDraftModel", name := "allThreads", desc := "()I" } : Jvm.MethodName)) ∈ lw_all := lw_g (lw_at lw_m7 43 rfl) rfl
theorem q1550 : (Jvm.Cond.code ({ cls := "WeaveDraftModel", name := "allThreads", desc := "()I" } : Jvm.MethodName) prog_15_method_76_code (3 : Nat) (Option.some Jvm.ClassFile.FieldType.int)) ∈ lw_all := lw_g (lw_at lw_m7 44 rfl) rfl
theorem q1567 : (Jvm.Cond.castable "WeaveDraftModel" "java/lang/Object") ∈ lw_tbl := lw_at lw_m7 61 rfl
theorem q115 : (Jvm.Cond.arrayOver (Jvm.ClassFile.FieldType.object "WeaveDraft$Draft$End")) ∈ lw_tbl := lw_at lw_m1 49 rfl
theorem q117 : (Jvm.Cond.arrayOver (Jvm.ClassFile.FieldType.object "WeaveDraft$Draft$Pick")) ∈ lw_tbl := lw_at lw_m1 51 rfl
theorem q153 : (Jvm.Cond.arrayClass Jvm.ClassFile.FieldType.int) ∈ lw_all := lw_g (lw_at lw_m1 87 rfl) rfl
theorem q210 : (Jvm.Cond.arrayOver (Jvm.ClassFile.FieldType.object "WeaveDraft$Draft")) ∈ lw_tbl := lw_at lw_m1 144 rfl
theorem q212 : (Jvm.Cond.arrayOver (Jvm.ClassFile.FieldType.object "WeaveDraft$Spool")) ∈ lw_tbl := lw_at lw_m1 146 rfl
theorem q259 : (Jvm.Cond.arrayClass Jvm.ClassFile.FieldType.byte) ∈ lw_all := lw_g (lw_at lw_m1 193 rfl) rfl
theorem q285 : (Jvm.Cond.arrayOver (Jvm.ClassFile.FieldType.array Jvm.ClassFile.FieldType.int)) ∈ lw_tbl := lw_at lw_m1 219 rfl
theorem q1246 : (Jvm.Cond.arrayClass Jvm.ClassFile.FieldType.boolean) ∈ lw_all := lw_g (lw_at lw_m5 220 rfl) rfl
theorem q1586 : (Jvm.Cond.arrayOver (Jvm.ClassFile.FieldType.object "java/lang/String")) ∈ lw_tbl := lw_at lw_m7 80 rfl
