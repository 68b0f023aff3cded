/-! code rows of X6 (claim/names), and their K -/
set_option maxRecDepth 100000
abbrev cX6_init : ByteArray := prog_14_method_1_code
def yX6_init : MethodName := ⟨RX6, "<init>", "()V"⟩
def dkwX6_init_6 : List UInt8 := [177]
abbrev dktX6_init_6 : List UInt8 := dkwX6_init_6 ++ []
def dkwX6_init_5 : List UInt8 := [3, 181, 0, 60, 42, 3, 181, 0, 63, 42, 3, 181, 0, 66, 42, 2, 181, 0, 69, 42, 3, 181, 0, 72]
abbrev dktX6_init_5 : List UInt8 := dkwX6_init_5 ++ dktX6_init_6
def dkwX6_init_4 : List UInt8 := [16, 32, 188, 10, 181, 0, 51, 42, 16, 32, 188, 10, 181, 0, 54, 42, 16, 32, 188, 10, 181, 0, 57, 42]
abbrev dktX6_init_4 : List UInt8 := dkwX6_init_4 ++ dktX6_init_5
def dkwX6_init_3 : List UInt8 := [3, 181, 0, 38, 42, 3, 181, 0, 41, 42, 3, 181, 0, 44, 42, 16, 60, 188, 10, 181, 0, 48, 42]
abbrev dktX6_init_3 : List UInt8 := dkwX6_init_3 ++ dktX6_init_4
def dkwX6_init_2 : List UInt8 := [181, 0, 22, 42, 3, 181, 0, 25, 42, 3, 181, 0, 29, 42, 3, 181, 0, 32, 42, 3, 181, 0, 35, 42]
abbrev dktX6_init_2 : List UInt8 := dkwX6_init_2 ++ dktX6_init_3
def dkwX6_init_1 : List UInt8 := [17, 0, 222, 188, 10, 181, 0, 16, 42, 17, 0, 222, 188, 10, 181, 0, 19, 42, 17, 6, 240, 188, 10]
abbrev dktX6_init_1 : List UInt8 := dkwX6_init_1 ++ dktX6_init_2
def dkwX6_init_0 : List UInt8 := [42, 183, 0, 1, 42, 17, 0, 222, 188, 10, 181, 0, 7, 42, 17, 0, 222, 188, 10, 181, 0, 13, 42]
abbrev dktX6_init_0 : List UInt8 := dkwX6_init_0 ++ dktX6_init_1
theorem dksX6_init_0 : cX6_init.data.toList.drop 0 = dktX6_init_0 := by decide +kernel
theorem dksX6_init_1 : cX6_init.data.toList.drop 23 = dktX6_init_1 := dk_seg dksX6_init_0 23 rfl rfl
theorem dksX6_init_2 : cX6_init.data.toList.drop 46 = dktX6_init_2 := dk_seg dksX6_init_1 23 rfl rfl
theorem dksX6_init_3 : cX6_init.data.toList.drop 70 = dktX6_init_3 := dk_seg dksX6_init_2 24 rfl rfl
theorem dksX6_init_4 : cX6_init.data.toList.drop 93 = dktX6_init_4 := dk_seg dksX6_init_3 23 rfl rfl
theorem dksX6_init_5 : cX6_init.data.toList.drop 117 = dktX6_init_5 := dk_seg dksX6_init_4 24 rfl rfl
theorem dksX6_init_6 : cX6_init.data.toList.drop 141 = dktX6_init_6 := dk_seg dksX6_init_5 24 rfl rfl
theorem dX6_init_0 : decode cX6_init 0 = .ok (.aload_n 0, 1) := dk_42 (dk_at dksX6_init_0 0 rfl rfl)
theorem dX6_init_1 : decode cX6_init 1 = .ok (.invokespecial 1, 3) := dk_183 0 1 (dk_at dksX6_init_0 1 rfl rfl)
theorem dX6_init_4 : decode cX6_init 4 = .ok (.aload_n 0, 1) := dk_42 (dk_at dksX6_init_0 4 rfl rfl)
theorem dX6_init_5 : decode cX6_init 5 = .ok (.sipush 222, 3) := dk_17 0 222 (dk_at dksX6_init_0 5 rfl rfl)
theorem dX6_init_8 : decode cX6_init 8 = .ok (.newarray .int, 2) := dk_188_10 (dk_at dksX6_init_0 8 rfl rfl)
theorem dX6_init_10 : decode cX6_init 10 = .ok (.putfield 7, 3) := dk_181 0 7 (dk_at dksX6_init_0 10 rfl rfl)
theorem dX6_init_13 : decode cX6_init 13 = .ok (.aload_n 0, 1) := dk_42 (dk_at dksX6_init_0 13 rfl rfl)
theorem dX6_init_14 : decode cX6_init 14 = .ok (.sipush 222, 3) := dk_17 0 222 (dk_at dksX6_init_0 14 rfl rfl)
theorem dX6_init_17 : decode cX6_init 17 = .ok (.newarray .int, 2) := dk_188_10 (dk_at dksX6_init_0 17 rfl rfl)
theorem dX6_init_19 : decode cX6_init 19 = .ok (.putfield 13, 3) := dk_181 0 13 (dk_at dksX6_init_0 19 rfl rfl)
theorem dX6_init_22 : decode cX6_init 22 = .ok (.aload_n 0, 1) := dk_42 (dk_at dksX6_init_0 22 rfl rfl)
theorem dX6_init_23 : decode cX6_init 23 = .ok (.sipush 222, 3) := dk_17 0 222 (dk_at dksX6_init_1 0 rfl rfl)
theorem dX6_init_26 : decode cX6_init 26 = .ok (.newarray .int, 2) := dk_188_10 (dk_at dksX6_init_1 3 rfl rfl)
theorem dX6_init_28 : decode cX6_init 28 = .ok (.putfield 16, 3) := dk_181 0 16 (dk_at dksX6_init_1 5 rfl rfl)
theorem dX6_init_31 : decode cX6_init 31 = .ok (.aload_n 0, 1) := dk_42 (dk_at dksX6_init_1 8 rfl rfl)
theorem dX6_init_32 : decode cX6_init 32 = .ok (.sipush 222, 3) := dk_17 0 222 (dk_at dksX6_init_1 9 rfl rfl)
theorem dX6_init_35 : decode cX6_init 35 = .ok (.newarray .int, 2) := dk_188_10 (dk_at dksX6_init_1 12 rfl rfl)
theorem dX6_init_37 : decode cX6_init 37 = .ok (.putfield 19, 3) := dk_181 0 19 (dk_at dksX6_init_1 14 rfl rfl)
theorem dX6_init_40 : decode cX6_init 40 = .ok (.aload_n 0, 1) := dk_42 (dk_at dksX6_init_1 17 rfl rfl)
theorem dX6_init_41 : decode cX6_init 41 = .ok (.sipush 1776, 3) := dk_17 6 240 (dk_at dksX6_init_1 18 rfl rfl)
theorem dX6_init_44 : decode cX6_init 44 = .ok (.newarray .int, 2) := dk_188_10 (dk_at dksX6_init_1 21 rfl rfl)
theorem dX6_init_46 : decode cX6_init 46 = .ok (.putfield 22, 3) := dk_181 0 22 (dk_at dksX6_init_2 0 rfl rfl)
theorem dX6_init_49 : decode cX6_init 49 = .ok (.aload_n 0, 1) := dk_42 (dk_at dksX6_init_2 3 rfl rfl)
theorem dX6_init_50 : decode cX6_init 50 = .ok (.iconst 0, 1) := dk_3 (dk_at dksX6_init_2 4 rfl rfl)
theorem dX6_init_51 : decode cX6_init 51 = .ok (.putfield 25, 3) := dk_181 0 25 (dk_at dksX6_init_2 5 rfl rfl)
theorem dX6_init_54 : decode cX6_init 54 = .ok (.aload_n 0, 1) := dk_42 (dk_at dksX6_init_2 8 rfl rfl)
theorem dX6_init_55 : decode cX6_init 55 = .ok (.iconst 0, 1) := dk_3 (dk_at dksX6_init_2 9 rfl rfl)
theorem dX6_init_56 : decode cX6_init 56 = .ok (.putfield 29, 3) := dk_181 0 29 (dk_at dksX6_init_2 10 rfl rfl)
theorem dX6_init_59 : decode cX6_init 59 = .ok (.aload_n 0, 1) := dk_42 (dk_at dksX6_init_2 13 rfl rfl)
theorem dX6_init_60 : decode cX6_init 60 = .ok (.iconst 0, 1) := dk_3 (dk_at dksX6_init_2 14 rfl rfl)
theorem dX6_init_61 : decode cX6_init 61 = .ok (.putfield 32, 3) := dk_181 0 32 (dk_at dksX6_init_2 15 rfl rfl)
theorem dX6_init_64 : decode cX6_init 64 = .ok (.aload_n 0, 1) := dk_42 (dk_at dksX6_init_2 18 rfl rfl)
theorem dX6_init_65 : decode cX6_init 65 = .ok (.iconst 0, 1) := dk_3 (dk_at dksX6_init_2 19 rfl rfl)
theorem dX6_init_66 : decode cX6_init 66 = .ok (.putfield 35, 3) := dk_181 0 35 (dk_at dksX6_init_2 20 rfl rfl)
theorem dX6_init_69 : decode cX6_init 69 = .ok (.aload_n 0, 1) := dk_42 (dk_at dksX6_init_2 23 rfl rfl)
theorem dX6_init_70 : decode cX6_init 70 = .ok (.iconst 0, 1) := dk_3 (dk_at dksX6_init_3 0 rfl rfl)
theorem dX6_init_71 : decode cX6_init 71 = .ok (.putfield 38, 3) := dk_181 0 38 (dk_at dksX6_init_3 1 rfl rfl)
theorem dX6_init_74 : decode cX6_init 74 = .ok (.aload_n 0, 1) := dk_42 (dk_at dksX6_init_3 4 rfl rfl)
theorem dX6_init_75 : decode cX6_init 75 = .ok (.iconst 0, 1) := dk_3 (dk_at dksX6_init_3 5 rfl rfl)
theorem dX6_init_76 : decode cX6_init 76 = .ok (.putfield 41, 3) := dk_181 0 41 (dk_at dksX6_init_3 6 rfl rfl)
theorem dX6_init_79 : decode cX6_init 79 = .ok (.aload_n 0, 1) := dk_42 (dk_at dksX6_init_3 9 rfl rfl)
theorem dX6_init_80 : decode cX6_init 80 = .ok (.iconst 0, 1) := dk_3 (dk_at dksX6_init_3 10 rfl rfl)
theorem dX6_init_81 : decode cX6_init 81 = .ok (.putfield 44, 3) := dk_181 0 44 (dk_at dksX6_init_3 11 rfl rfl)
theorem dX6_init_84 : decode cX6_init 84 = .ok (.aload_n 0, 1) := dk_42 (dk_at dksX6_init_3 14 rfl rfl)
theorem dX6_init_85 : decode cX6_init 85 = .ok (.bipush 60, 2) := dk_16 60 (dk_at dksX6_init_3 15 rfl rfl)
theorem dX6_init_87 : decode cX6_init 87 = .ok (.newarray .int, 2) := dk_188_10 (dk_at dksX6_init_3 17 rfl rfl)
theorem dX6_init_89 : decode cX6_init 89 = .ok (.putfield 48, 3) := dk_181 0 48 (dk_at dksX6_init_3 19 rfl rfl)
theorem dX6_init_92 : decode cX6_init 92 = .ok (.aload_n 0, 1) := dk_42 (dk_at dksX6_init_3 22 rfl rfl)
theorem dX6_init_93 : decode cX6_init 93 = .ok (.bipush 32, 2) := dk_16 32 (dk_at dksX6_init_4 0 rfl rfl)
theorem dX6_init_95 : decode cX6_init 95 = .ok (.newarray .int, 2) := dk_188_10 (dk_at dksX6_init_4 2 rfl rfl)
theorem dX6_init_97 : decode cX6_init 97 = .ok (.putfield 51, 3) := dk_181 0 51 (dk_at dksX6_init_4 4 rfl rfl)
theorem dX6_init_100 : decode cX6_init 100 = .ok (.aload_n 0, 1) := dk_42 (dk_at dksX6_init_4 7 rfl rfl)
theorem dX6_init_101 : decode cX6_init 101 = .ok (.bipush 32, 2) := dk_16 32 (dk_at dksX6_init_4 8 rfl rfl)
theorem dX6_init_103 : decode cX6_init 103 = .ok (.newarray .int, 2) := dk_188_10 (dk_at dksX6_init_4 10 rfl rfl)
theorem dX6_init_105 : decode cX6_init 105 = .ok (.putfield 54, 3) := dk_181 0 54 (dk_at dksX6_init_4 12 rfl rfl)
theorem dX6_init_108 : decode cX6_init 108 = .ok (.aload_n 0, 1) := dk_42 (dk_at dksX6_init_4 15 rfl rfl)
theorem dX6_init_109 : decode cX6_init 109 = .ok (.bipush 32, 2) := dk_16 32 (dk_at dksX6_init_4 16 rfl rfl)
theorem dX6_init_111 : decode cX6_init 111 = .ok (.newarray .int, 2) := dk_188_10 (dk_at dksX6_init_4 18 rfl rfl)
theorem dX6_init_113 : decode cX6_init 113 = .ok (.putfield 57, 3) := dk_181 0 57 (dk_at dksX6_init_4 20 rfl rfl)
theorem dX6_init_116 : decode cX6_init 116 = .ok (.aload_n 0, 1) := dk_42 (dk_at dksX6_init_4 23 rfl rfl)
theorem dX6_init_117 : decode cX6_init 117 = .ok (.iconst 0, 1) := dk_3 (dk_at dksX6_init_5 0 rfl rfl)
theorem dX6_init_118 : decode cX6_init 118 = .ok (.putfield 60, 3) := dk_181 0 60 (dk_at dksX6_init_5 1 rfl rfl)
theorem dX6_init_121 : decode cX6_init 121 = .ok (.aload_n 0, 1) := dk_42 (dk_at dksX6_init_5 4 rfl rfl)
theorem dX6_init_122 : decode cX6_init 122 = .ok (.iconst 0, 1) := dk_3 (dk_at dksX6_init_5 5 rfl rfl)
theorem dX6_init_123 : decode cX6_init 123 = .ok (.putfield 63, 3) := dk_181 0 63 (dk_at dksX6_init_5 6 rfl rfl)
theorem dX6_init_126 : decode cX6_init 126 = .ok (.aload_n 0, 1) := dk_42 (dk_at dksX6_init_5 9 rfl rfl)
theorem dX6_init_127 : decode cX6_init 127 = .ok (.iconst 0, 1) := dk_3 (dk_at dksX6_init_5 10 rfl rfl)
theorem dX6_init_128 : decode cX6_init 128 = .ok (.putfield 66, 3) := dk_181 0 66 (dk_at dksX6_init_5 11 rfl rfl)
theorem dX6_init_131 : decode cX6_init 131 = .ok (.aload_n 0, 1) := dk_42 (dk_at dksX6_init_5 14 rfl rfl)
theorem dX6_init_132 : decode cX6_init 132 = .ok (.iconst (-1), 1) := dk_2 (dk_at dksX6_init_5 15 rfl rfl)
theorem dX6_init_133 : decode cX6_init 133 = .ok (.putfield 69, 3) := dk_181 0 69 (dk_at dksX6_init_5 16 rfl rfl)
theorem dX6_init_136 : decode cX6_init 136 = .ok (.aload_n 0, 1) := dk_42 (dk_at dksX6_init_5 19 rfl rfl)
theorem dX6_init_137 : decode cX6_init 137 = .ok (.iconst 0, 1) := dk_3 (dk_at dksX6_init_5 20 rfl rfl)
theorem dX6_init_138 : decode cX6_init 138 = .ok (.putfield 72, 3) := dk_181 0 72 (dk_at dksX6_init_5 21 rfl rfl)
theorem dX6_init_141 : decode cX6_init 141 = .ok (.return_, 1) := dk_177 (dk_at dksX6_init_6 0 rfl rfl)
abbrev kX6_init : KX := (cX6_init, "TissueBalloonsModel", "<init>", 1, none, [], 1)
abbrev cX6_thrown : ByteArray := prog_14_method_2_code
def yX6_thrown : MethodName := ⟨RX6, "thrown", "()I"⟩
theorem dX6_thrown_0 : decode cX6_thrown 0 = .ok (.aload_n 0, 1) := by decide +kernel
theorem dX6_thrown_1 : decode cX6_thrown 1 = .ok (.getfield 25, 3) := by decide +kernel
theorem dX6_thrown_4 : decode cX6_thrown 4 = .ok (.ireturn, 1) := by decide +kernel
abbrev kX6_thrown : KX := (cX6_thrown, "TissueBalloonsModel", "thrown", 1, some .int, [], 0)
abbrev cX6_wind : ByteArray := prog_14_method_26_code
def yX6_wind : MethodName := ⟨RX6, "wind", "(II)I"⟩
def dkwX6_wind_1 : List UInt8 := [42, 42, 27, 28, 182, 0, 97, 182, 0, 101, 167, 0, 8, 42, 5, 182, 0, 75, 172]
abbrev dktX6_wind_1 : List UInt8 := dkwX6_wind_1 ++ []
def dkwX6_wind_0 : List UInt8 := [42, 182, 0, 87, 27, 184, 0, 90, 154, 0, 9, 42, 4, 182, 0, 75, 172, 28, 184, 0, 94, 153, 0, 16]
abbrev dktX6_wind_0 : List UInt8 := dkwX6_wind_0 ++ dktX6_wind_1
theorem dksX6_wind_0 : cX6_wind.data.toList.drop 0 = dktX6_wind_0 := by decide +kernel
theorem dksX6_wind_1 : cX6_wind.data.toList.drop 24 = dktX6_wind_1 := dk_seg dksX6_wind_0 24 rfl rfl
theorem dX6_wind_0 : decode cX6_wind 0 = .ok (.aload_n 0, 1) := dk_42 (dk_at dksX6_wind_0 0 rfl rfl)
theorem dX6_wind_1 : decode cX6_wind 1 = .ok (.invokevirtual 87, 3) := dk_182 0 87 (dk_at dksX6_wind_0 1 rfl rfl)
theorem dX6_wind_4 : decode cX6_wind 4 = .ok (.iload_n 1, 1) := dk_27 (dk_at dksX6_wind_0 4 rfl rfl)
theorem dX6_wind_5 : decode cX6_wind 5 = .ok (.invokestatic 90, 3) := dk_184 0 90 (dk_at dksX6_wind_0 5 rfl rfl)
theorem dX6_wind_8 : decode cX6_wind 8 = .ok (.ifCond .ne 9, 3) := dk_154 0 9 (dk_at dksX6_wind_0 8 rfl rfl)
theorem dX6_wind_11 : decode cX6_wind 11 = .ok (.aload_n 0, 1) := dk_42 (dk_at dksX6_wind_0 11 rfl rfl)
theorem dX6_wind_12 : decode cX6_wind 12 = .ok (.iconst 1, 1) := dk_4 (dk_at dksX6_wind_0 12 rfl rfl)
theorem dX6_wind_13 : decode cX6_wind 13 = .ok (.invokevirtual 75, 3) := dk_182 0 75 (dk_at dksX6_wind_0 13 rfl rfl)
theorem dX6_wind_16 : decode cX6_wind 16 = .ok (.ireturn, 1) := dk_172 (dk_at dksX6_wind_0 16 rfl rfl)
theorem dX6_wind_17 : decode cX6_wind 17 = .ok (.iload_n 2, 1) := dk_28 (dk_at dksX6_wind_0 17 rfl rfl)
theorem dX6_wind_18 : decode cX6_wind 18 = .ok (.invokestatic 94, 3) := dk_184 0 94 (dk_at dksX6_wind_0 18 rfl rfl)
theorem dX6_wind_21 : decode cX6_wind 21 = .ok (.ifCond .eq 16, 3) := dk_153 0 16 (dk_at dksX6_wind_0 21 rfl rfl)
theorem dX6_wind_24 : decode cX6_wind 24 = .ok (.aload_n 0, 1) := dk_42 (dk_at dksX6_wind_1 0 rfl rfl)
theorem dX6_wind_25 : decode cX6_wind 25 = .ok (.aload_n 0, 1) := dk_42 (dk_at dksX6_wind_1 1 rfl rfl)
theorem dX6_wind_26 : decode cX6_wind 26 = .ok (.iload_n 1, 1) := dk_27 (dk_at dksX6_wind_1 2 rfl rfl)
theorem dX6_wind_27 : decode cX6_wind 27 = .ok (.iload_n 2, 1) := dk_28 (dk_at dksX6_wind_1 3 rfl rfl)
theorem dX6_wind_28 : decode cX6_wind 28 = .ok (.invokevirtual 97, 3) := dk_182 0 97 (dk_at dksX6_wind_1 4 rfl rfl)
theorem dX6_wind_31 : decode cX6_wind 31 = .ok (.invokevirtual 101, 3) := dk_182 0 101 (dk_at dksX6_wind_1 7 rfl rfl)
theorem dX6_wind_34 : decode cX6_wind 34 = .ok (.goto 8, 3) := dk_167 0 8 (dk_at dksX6_wind_1 10 rfl rfl)
theorem dX6_wind_37 : decode cX6_wind 37 = .ok (.aload_n 0, 1) := dk_42 (dk_at dksX6_wind_1 13 rfl rfl)
theorem dX6_wind_38 : decode cX6_wind 38 = .ok (.iconst 2, 1) := dk_5 (dk_at dksX6_wind_1 14 rfl rfl)
theorem dX6_wind_39 : decode cX6_wind 39 = .ok (.invokevirtual 75, 3) := dk_182 0 75 (dk_at dksX6_wind_1 15 rfl rfl)
theorem dX6_wind_42 : decode cX6_wind 42 = .ok (.ireturn, 1) := dk_172 (dk_at dksX6_wind_1 18 rfl rfl)
abbrev kX6_wind : KX := (cX6_wind, "TissueBalloonsModel", "wind", 3, some .int, [], 2)
abbrev cX6_begins : ByteArray := prog_14_method_10_code
def yX6_begins : MethodName := ⟨RX6, "begins", "()V"⟩
def dkwX6_begins_0 : List UInt8 := [42, 3, 181, 0, 25, 42, 180, 0, 7, 3, 42, 180, 0, 13, 3, 184, 0, 79, 177]
abbrev dktX6_begins_0 : List UInt8 := dkwX6_begins_0 ++ []
theorem dksX6_begins_0 : cX6_begins.data.toList.drop 0 = dktX6_begins_0 := by decide +kernel
theorem dX6_begins_0 : decode cX6_begins 0 = .ok (.aload_n 0, 1) := dk_42 (dk_at dksX6_begins_0 0 rfl rfl)
theorem dX6_begins_1 : decode cX6_begins 1 = .ok (.iconst 0, 1) := dk_3 (dk_at dksX6_begins_0 1 rfl rfl)
theorem dX6_begins_2 : decode cX6_begins 2 = .ok (.putfield 25, 3) := dk_181 0 25 (dk_at dksX6_begins_0 2 rfl rfl)
theorem dX6_begins_5 : decode cX6_begins 5 = .ok (.aload_n 0, 1) := dk_42 (dk_at dksX6_begins_0 5 rfl rfl)
theorem dX6_begins_6 : decode cX6_begins 6 = .ok (.getfield 7, 3) := dk_180 0 7 (dk_at dksX6_begins_0 6 rfl rfl)
theorem dX6_begins_9 : decode cX6_begins 9 = .ok (.iconst 0, 1) := dk_3 (dk_at dksX6_begins_0 9 rfl rfl)
theorem dX6_begins_10 : decode cX6_begins 10 = .ok (.aload_n 0, 1) := dk_42 (dk_at dksX6_begins_0 10 rfl rfl)
theorem dX6_begins_11 : decode cX6_begins 11 = .ok (.getfield 13, 3) := dk_180 0 13 (dk_at dksX6_begins_0 11 rfl rfl)
theorem dX6_begins_14 : decode cX6_begins 14 = .ok (.iconst 0, 1) := dk_3 (dk_at dksX6_begins_0 14 rfl rfl)
theorem dX6_begins_15 : decode cX6_begins 15 = .ok (.invokestatic 79, 3) := dk_184 0 79 (dk_at dksX6_begins_0 15 rfl rfl)
theorem dX6_begins_18 : decode cX6_begins 18 = .ok (.return_, 1) := dk_177 (dk_at dksX6_begins_0 18 rfl rfl)
abbrev kX6_begins : KX := (cX6_begins, "TissueBalloonsModel", "begins", 1, none, [], 1)
abbrev cX6_copies : ByteArray := prog_14_method_6_code
def yX6_copies : MethodName := ⟨RX6, "copies", "([II[II)V"⟩
def dkwX6_copies_1 : List UInt8 := [132, 4, 1, 167, 255, 233, 177]
abbrev dktX6_copies_1 : List UInt8 := dkwX6_copies_1 ++ []
def dkwX6_copies_0 : List UInt8 := [3, 54, 4, 21, 4, 17, 0, 222, 162, 0, 21, 44, 29, 21, 4, 96, 42, 27, 21, 4, 96, 46, 79]
abbrev dktX6_copies_0 : List UInt8 := dkwX6_copies_0 ++ dktX6_copies_1
theorem dksX6_copies_0 : cX6_copies.data.toList.drop 0 = dktX6_copies_0 := by decide +kernel
theorem dksX6_copies_1 : cX6_copies.data.toList.drop 23 = dktX6_copies_1 := dk_seg dksX6_copies_0 23 rfl rfl
theorem dX6_copies_0 : decode cX6_copies 0 = .ok (.iconst 0, 1) := dk_3 (dk_at dksX6_copies_0 0 rfl rfl)
theorem dX6_copies_1 : decode cX6_copies 1 = .ok (.istore 4, 2) := dk_54 4 (dk_at dksX6_copies_0 1 rfl rfl)
theorem dX6_copies_3 : decode cX6_copies 3 = .ok (.iload 4, 2) := dk_21 4 (dk_at dksX6_copies_0 3 rfl rfl)
theorem dX6_copies_5 : decode cX6_copies 5 = .ok (.sipush 222, 3) := dk_17 0 222 (dk_at dksX6_copies_0 5 rfl rfl)
theorem dX6_copies_8 : decode cX6_copies 8 = .ok (.if_icmp .ge 21, 3) := dk_162 0 21 (dk_at dksX6_copies_0 8 rfl rfl)
theorem dX6_copies_11 : decode cX6_copies 11 = .ok (.aload_n 2, 1) := dk_44 (dk_at dksX6_copies_0 11 rfl rfl)
theorem dX6_copies_12 : decode cX6_copies 12 = .ok (.iload_n 3, 1) := dk_29 (dk_at dksX6_copies_0 12 rfl rfl)
theorem dX6_copies_13 : decode cX6_copies 13 = .ok (.iload 4, 2) := dk_21 4 (dk_at dksX6_copies_0 13 rfl rfl)
theorem dX6_copies_15 : decode cX6_copies 15 = .ok (.iadd, 1) := dk_96 (dk_at dksX6_copies_0 15 rfl rfl)
theorem dX6_copies_16 : decode cX6_copies 16 = .ok (.aload_n 0, 1) := dk_42 (dk_at dksX6_copies_0 16 rfl rfl)
theorem dX6_copies_17 : decode cX6_copies 17 = .ok (.iload_n 1, 1) := dk_27 (dk_at dksX6_copies_0 17 rfl rfl)
theorem dX6_copies_18 : decode cX6_copies 18 = .ok (.iload 4, 2) := dk_21 4 (dk_at dksX6_copies_0 18 rfl rfl)
theorem dX6_copies_20 : decode cX6_copies 20 = .ok (.iadd, 1) := dk_96 (dk_at dksX6_copies_0 20 rfl rfl)
theorem dX6_copies_21 : decode cX6_copies 21 = .ok (.iaload, 1) := dk_46 (dk_at dksX6_copies_0 21 rfl rfl)
theorem dX6_copies_22 : decode cX6_copies 22 = .ok (.iastore, 1) := dk_79 (dk_at dksX6_copies_0 22 rfl rfl)
theorem dX6_copies_23 : decode cX6_copies 23 = .ok (.iinc 4 1, 3) := dk_132 4 1 (dk_at dksX6_copies_1 0 rfl rfl)
theorem dX6_copies_26 : decode cX6_copies 26 = .ok (.goto (-23), 3) := dk_167 255 233 (dk_at dksX6_copies_1 3 rfl rfl)
theorem dX6_copies_29 : decode cX6_copies 29 = .ok (.return_, 1) := dk_177 (dk_at dksX6_copies_1 6 rfl rfl)
abbrev kX6_copies : KX := (cX6_copies, "TissueBalloonsModel", "copies", 5, none, [], 0)
abbrev cX6_isLayer : ByteArray := prog_14_method_21_code
def yX6_isLayer : MethodName := ⟨RX6, "isLayer", "(I)Z"⟩
def dkwX6_isLayer_0 : List UInt8 := [26, 3, 6, 184, 0, 83, 172]
abbrev dktX6_isLayer_0 : List UInt8 := dkwX6_isLayer_0 ++ []
theorem dksX6_isLayer_0 : cX6_isLayer.data.toList.drop 0 = dktX6_isLayer_0 := by decide +kernel
theorem dX6_isLayer_0 : decode cX6_isLayer 0 = .ok (.iload_n 0, 1) := dk_26 (dk_at dksX6_isLayer_0 0 rfl rfl)
theorem dX6_isLayer_1 : decode cX6_isLayer 1 = .ok (.iconst 0, 1) := dk_3 (dk_at dksX6_isLayer_0 1 rfl rfl)
theorem dX6_isLayer_2 : decode cX6_isLayer 2 = .ok (.iconst 3, 1) := dk_6 (dk_at dksX6_isLayer_0 2 rfl rfl)
theorem dX6_isLayer_3 : decode cX6_isLayer 3 = .ok (.invokestatic 83, 3) := dk_184 0 83 (dk_at dksX6_isLayer_0 3 rfl rfl)
theorem dX6_isLayer_6 : decode cX6_isLayer 6 = .ok (.ireturn, 1) := dk_172 (dk_at dksX6_isLayer_0 6 rfl rfl)
abbrev kX6_isLayer : KX := (cX6_isLayer, "TissueBalloonsModel", "isLayer", 1, some .boolean, [], 1)
abbrev cX6_in : ByteArray := prog_14_method_3_code
def yX6_in : MethodName := ⟨RX6, "in", "(III)Z"⟩
def dkwX6_in_0 : List UInt8 := [26, 27, 161, 0, 12, 26, 28, 163, 0, 7, 4, 167, 0, 4, 3, 172]
abbrev dktX6_in_0 : List UInt8 := dkwX6_in_0 ++ []
theorem dksX6_in_0 : cX6_in.data.toList.drop 0 = dktX6_in_0 := by decide +kernel
theorem dX6_in_0 : decode cX6_in 0 = .ok (.iload_n 0, 1) := dk_26 (dk_at dksX6_in_0 0 rfl rfl)
theorem dX6_in_1 : decode cX6_in 1 = .ok (.iload_n 1, 1) := dk_27 (dk_at dksX6_in_0 1 rfl rfl)
theorem dX6_in_2 : decode cX6_in 2 = .ok (.if_icmp .lt 12, 3) := dk_161 0 12 (dk_at dksX6_in_0 2 rfl rfl)
theorem dX6_in_5 : decode cX6_in 5 = .ok (.iload_n 0, 1) := dk_26 (dk_at dksX6_in_0 5 rfl rfl)
theorem dX6_in_6 : decode cX6_in 6 = .ok (.iload_n 2, 1) := dk_28 (dk_at dksX6_in_0 6 rfl rfl)
theorem dX6_in_7 : decode cX6_in 7 = .ok (.if_icmp .gt 7, 3) := dk_163 0 7 (dk_at dksX6_in_0 7 rfl rfl)
theorem dX6_in_10 : decode cX6_in 10 = .ok (.iconst 1, 1) := dk_4 (dk_at dksX6_in_0 10 rfl rfl)
theorem dX6_in_11 : decode cX6_in 11 = .ok (.goto 4, 3) := dk_167 0 4 (dk_at dksX6_in_0 11 rfl rfl)
theorem dX6_in_14 : decode cX6_in 14 = .ok (.iconst 0, 1) := dk_3 (dk_at dksX6_in_0 14 rfl rfl)
theorem dX6_in_15 : decode cX6_in 15 = .ok (.ireturn, 1) := dk_172 (dk_at dksX6_in_0 15 rfl rfl)
abbrev kX6_in : KX := (cX6_in, "TissueBalloonsModel", "in", 3, some .boolean, [], 0)
abbrev cX6_no : ByteArray := prog_14_method_7_code
def yX6_no : MethodName := ⟨RX6, "no", "(I)I"⟩
def dkwX6_no_0 : List UInt8 := [42, 27, 181, 0, 25, 3, 172]
abbrev dktX6_no_0 : List UInt8 := dkwX6_no_0 ++ []
theorem dksX6_no_0 : cX6_no.data.toList.drop 0 = dktX6_no_0 := by decide +kernel
theorem dX6_no_0 : decode cX6_no 0 = .ok (.aload_n 0, 1) := dk_42 (dk_at dksX6_no_0 0 rfl rfl)
theorem dX6_no_1 : decode cX6_no 1 = .ok (.iload_n 1, 1) := dk_27 (dk_at dksX6_no_0 1 rfl rfl)
theorem dX6_no_2 : decode cX6_no 2 = .ok (.putfield 25, 3) := dk_181 0 25 (dk_at dksX6_no_0 2 rfl rfl)
theorem dX6_no_5 : decode cX6_no 5 = .ok (.iconst 0, 1) := dk_3 (dk_at dksX6_no_0 5 rfl rfl)
theorem dX6_no_6 : decode cX6_no 6 = .ok (.ireturn, 1) := dk_172 (dk_at dksX6_no_0 6 rfl rfl)
abbrev kX6_no : KX := (cX6_no, "TissueBalloonsModel", "no", 2, some .int, [], 0)
abbrev cX6_isDrift : ByteArray := prog_14_method_22_code
def yX6_isDrift : MethodName := ⟨RX6, "isDrift", "(I)Z"⟩
def dkwX6_isDrift_0 : List UInt8 := [26, 16, 253, 6, 184, 0, 83, 172]
abbrev dktX6_isDrift_0 : List UInt8 := dkwX6_isDrift_0 ++ []
theorem dksX6_isDrift_0 : cX6_isDrift.data.toList.drop 0 = dktX6_isDrift_0 := by decide +kernel
theorem dX6_isDrift_0 : decode cX6_isDrift 0 = .ok (.iload_n 0, 1) := dk_26 (dk_at dksX6_isDrift_0 0 rfl rfl)
theorem dX6_isDrift_1 : decode cX6_isDrift 1 = .ok (.bipush (-3), 2) := dk_16 253 (dk_at dksX6_isDrift_0 1 rfl rfl)
theorem dX6_isDrift_3 : decode cX6_isDrift 3 = .ok (.iconst 3, 1) := dk_6 (dk_at dksX6_isDrift_0 3 rfl rfl)
theorem dX6_isDrift_4 : decode cX6_isDrift 4 = .ok (.invokestatic 83, 3) := dk_184 0 83 (dk_at dksX6_isDrift_0 4 rfl rfl)
theorem dX6_isDrift_7 : decode cX6_isDrift 7 = .ok (.ireturn, 1) := dk_172 (dk_at dksX6_isDrift_0 7 rfl rfl)
abbrev kX6_isDrift : KX := (cX6_isDrift, "TissueBalloonsModel", "isDrift", 1, some .boolean, [], 1)
abbrev cX6_sets : ByteArray := prog_14_method_25_code
def yX6_sets : MethodName := ⟨RX6, "sets", "(II)I"⟩
def dkwX6_sets_0 : List UInt8 := [42, 180, 0, 7, 16, 8, 27, 96, 46, 62, 42, 180, 0, 7, 16, 8, 27, 96, 28, 79, 29, 172]
abbrev dktX6_sets_0 : List UInt8 := dkwX6_sets_0 ++ []
theorem dksX6_sets_0 : cX6_sets.data.toList.drop 0 = dktX6_sets_0 := by decide +kernel
theorem dX6_sets_0 : decode cX6_sets 0 = .ok (.aload_n 0, 1) := dk_42 (dk_at dksX6_sets_0 0 rfl rfl)
theorem dX6_sets_1 : decode cX6_sets 1 = .ok (.getfield 7, 3) := dk_180 0 7 (dk_at dksX6_sets_0 1 rfl rfl)
theorem dX6_sets_4 : decode cX6_sets 4 = .ok (.bipush 8, 2) := dk_16 8 (dk_at dksX6_sets_0 4 rfl rfl)
theorem dX6_sets_6 : decode cX6_sets 6 = .ok (.iload_n 1, 1) := dk_27 (dk_at dksX6_sets_0 6 rfl rfl)
theorem dX6_sets_7 : decode cX6_sets 7 = .ok (.iadd, 1) := dk_96 (dk_at dksX6_sets_0 7 rfl rfl)
theorem dX6_sets_8 : decode cX6_sets 8 = .ok (.iaload, 1) := dk_46 (dk_at dksX6_sets_0 8 rfl rfl)
theorem dX6_sets_9 : decode cX6_sets 9 = .ok (.istore_n 3, 1) := dk_62 (dk_at dksX6_sets_0 9 rfl rfl)
theorem dX6_sets_10 : decode cX6_sets 10 = .ok (.aload_n 0, 1) := dk_42 (dk_at dksX6_sets_0 10 rfl rfl)
theorem dX6_sets_11 : decode cX6_sets 11 = .ok (.getfield 7, 3) := dk_180 0 7 (dk_at dksX6_sets_0 11 rfl rfl)
theorem dX6_sets_14 : decode cX6_sets 14 = .ok (.bipush 8, 2) := dk_16 8 (dk_at dksX6_sets_0 14 rfl rfl)
theorem dX6_sets_16 : decode cX6_sets 16 = .ok (.iload_n 1, 1) := dk_27 (dk_at dksX6_sets_0 16 rfl rfl)
theorem dX6_sets_17 : decode cX6_sets 17 = .ok (.iadd, 1) := dk_96 (dk_at dksX6_sets_0 17 rfl rfl)
theorem dX6_sets_18 : decode cX6_sets 18 = .ok (.iload_n 2, 1) := dk_28 (dk_at dksX6_sets_0 18 rfl rfl)
theorem dX6_sets_19 : decode cX6_sets 19 = .ok (.iastore, 1) := dk_79 (dk_at dksX6_sets_0 19 rfl rfl)
theorem dX6_sets_20 : decode cX6_sets 20 = .ok (.iload_n 3, 1) := dk_29 (dk_at dksX6_sets_0 20 rfl rfl)
theorem dX6_sets_21 : decode cX6_sets 21 = .ok (.ireturn, 1) := dk_172 (dk_at dksX6_sets_0 21 rfl rfl)
abbrev kX6_sets : KX := (cX6_sets, "TissueBalloonsModel", "sets", 4, some .int, [], 0)
abbrev cX6_keeps : ByteArray := prog_14_method_11_code
def yX6_keeps : MethodName := ⟨RX6, "keeps", "(I)I"⟩
def dkwX6_keeps_3 : List UInt8 := [104, 184, 0, 79, 42, 89, 180, 0, 29, 4, 96, 181, 0, 29, 27, 172]
abbrev dktX6_keeps_3 : List UInt8 := dkwX6_keeps_3 ++ []
def dkwX6_keeps_2 : List UInt8 := [180, 0, 29, 4, 100, 181, 0, 29, 42, 180, 0, 13, 3, 42, 180, 0, 22, 17, 0, 222, 42, 180, 0, 29]
abbrev dktX6_keeps_2 : List UInt8 := dkwX6_keeps_2 ++ dktX6_keeps_3
def dkwX6_keeps_1 : List UInt8 := [28, 104, 42, 180, 0, 22, 17, 0, 222, 28, 4, 100, 104, 184, 0, 79, 132, 2, 1, 167, 255, 224, 42, 89]
abbrev dktX6_keeps_1 : List UInt8 := dkwX6_keeps_1 ++ dktX6_keeps_2
def dkwX6_keeps_0 : List UInt8 := [42, 180, 0, 29, 16, 8, 160, 0, 50, 4, 61, 28, 16, 8, 162, 0, 32, 42, 180, 0, 22, 17, 0, 222]
abbrev dktX6_keeps_0 : List UInt8 := dkwX6_keeps_0 ++ dktX6_keeps_1
theorem dksX6_keeps_0 : cX6_keeps.data.toList.drop 0 = dktX6_keeps_0 := by decide +kernel
theorem dksX6_keeps_1 : cX6_keeps.data.toList.drop 24 = dktX6_keeps_1 := dk_seg dksX6_keeps_0 24 rfl rfl
theorem dksX6_keeps_2 : cX6_keeps.data.toList.drop 48 = dktX6_keeps_2 := dk_seg dksX6_keeps_1 24 rfl rfl
theorem dksX6_keeps_3 : cX6_keeps.data.toList.drop 72 = dktX6_keeps_3 := dk_seg dksX6_keeps_2 24 rfl rfl
theorem dX6_keeps_0 : decode cX6_keeps 0 = .ok (.aload_n 0, 1) := dk_42 (dk_at dksX6_keeps_0 0 rfl rfl)
theorem dX6_keeps_1 : decode cX6_keeps 1 = .ok (.getfield 29, 3) := dk_180 0 29 (dk_at dksX6_keeps_0 1 rfl rfl)
theorem dX6_keeps_4 : decode cX6_keeps 4 = .ok (.bipush 8, 2) := dk_16 8 (dk_at dksX6_keeps_0 4 rfl rfl)
theorem dX6_keeps_6 : decode cX6_keeps 6 = .ok (.if_icmp .ne 50, 3) := dk_160 0 50 (dk_at dksX6_keeps_0 6 rfl rfl)
theorem dX6_keeps_9 : decode cX6_keeps 9 = .ok (.iconst 1, 1) := dk_4 (dk_at dksX6_keeps_0 9 rfl rfl)
theorem dX6_keeps_10 : decode cX6_keeps 10 = .ok (.istore_n 2, 1) := dk_61 (dk_at dksX6_keeps_0 10 rfl rfl)
theorem dX6_keeps_11 : decode cX6_keeps 11 = .ok (.iload_n 2, 1) := dk_28 (dk_at dksX6_keeps_0 11 rfl rfl)
theorem dX6_keeps_12 : decode cX6_keeps 12 = .ok (.bipush 8, 2) := dk_16 8 (dk_at dksX6_keeps_0 12 rfl rfl)
theorem dX6_keeps_14 : decode cX6_keeps 14 = .ok (.if_icmp .ge 32, 3) := dk_162 0 32 (dk_at dksX6_keeps_0 14 rfl rfl)
theorem dX6_keeps_17 : decode cX6_keeps 17 = .ok (.aload_n 0, 1) := dk_42 (dk_at dksX6_keeps_0 17 rfl rfl)
theorem dX6_keeps_18 : decode cX6_keeps 18 = .ok (.getfield 22, 3) := dk_180 0 22 (dk_at dksX6_keeps_0 18 rfl rfl)
theorem dX6_keeps_21 : decode cX6_keeps 21 = .ok (.sipush 222, 3) := dk_17 0 222 (dk_at dksX6_keeps_0 21 rfl rfl)
theorem dX6_keeps_24 : decode cX6_keeps 24 = .ok (.iload_n 2, 1) := dk_28 (dk_at dksX6_keeps_1 0 rfl rfl)
theorem dX6_keeps_25 : decode cX6_keeps 25 = .ok (.imul, 1) := dk_104 (dk_at dksX6_keeps_1 1 rfl rfl)
theorem dX6_keeps_26 : decode cX6_keeps 26 = .ok (.aload_n 0, 1) := dk_42 (dk_at dksX6_keeps_1 2 rfl rfl)
theorem dX6_keeps_27 : decode cX6_keeps 27 = .ok (.getfield 22, 3) := dk_180 0 22 (dk_at dksX6_keeps_1 3 rfl rfl)
theorem dX6_keeps_30 : decode cX6_keeps 30 = .ok (.sipush 222, 3) := dk_17 0 222 (dk_at dksX6_keeps_1 6 rfl rfl)
theorem dX6_keeps_33 : decode cX6_keeps 33 = .ok (.iload_n 2, 1) := dk_28 (dk_at dksX6_keeps_1 9 rfl rfl)
theorem dX6_keeps_34 : decode cX6_keeps 34 = .ok (.iconst 1, 1) := dk_4 (dk_at dksX6_keeps_1 10 rfl rfl)
theorem dX6_keeps_35 : decode cX6_keeps 35 = .ok (.isub, 1) := dk_100 (dk_at dksX6_keeps_1 11 rfl rfl)
theorem dX6_keeps_36 : decode cX6_keeps 36 = .ok (.imul, 1) := dk_104 (dk_at dksX6_keeps_1 12 rfl rfl)
theorem dX6_keeps_37 : decode cX6_keeps 37 = .ok (.invokestatic 79, 3) := dk_184 0 79 (dk_at dksX6_keeps_1 13 rfl rfl)
theorem dX6_keeps_40 : decode cX6_keeps 40 = .ok (.iinc 2 1, 3) := dk_132 2 1 (dk_at dksX6_keeps_1 16 rfl rfl)
theorem dX6_keeps_43 : decode cX6_keeps 43 = .ok (.goto (-32), 3) := dk_167 255 224 (dk_at dksX6_keeps_1 19 rfl rfl)
theorem dX6_keeps_46 : decode cX6_keeps 46 = .ok (.aload_n 0, 1) := dk_42 (dk_at dksX6_keeps_1 22 rfl rfl)
theorem dX6_keeps_47 : decode cX6_keeps 47 = .ok (.dup, 1) := dk_89 (dk_at dksX6_keeps_1 23 rfl rfl)
theorem dX6_keeps_48 : decode cX6_keeps 48 = .ok (.getfield 29, 3) := dk_180 0 29 (dk_at dksX6_keeps_2 0 rfl rfl)
theorem dX6_keeps_51 : decode cX6_keeps 51 = .ok (.iconst 1, 1) := dk_4 (dk_at dksX6_keeps_2 3 rfl rfl)
theorem dX6_keeps_52 : decode cX6_keeps 52 = .ok (.isub, 1) := dk_100 (dk_at dksX6_keeps_2 4 rfl rfl)
theorem dX6_keeps_53 : decode cX6_keeps 53 = .ok (.putfield 29, 3) := dk_181 0 29 (dk_at dksX6_keeps_2 5 rfl rfl)
theorem dX6_keeps_56 : decode cX6_keeps 56 = .ok (.aload_n 0, 1) := dk_42 (dk_at dksX6_keeps_2 8 rfl rfl)
theorem dX6_keeps_57 : decode cX6_keeps 57 = .ok (.getfield 13, 3) := dk_180 0 13 (dk_at dksX6_keeps_2 9 rfl rfl)
theorem dX6_keeps_60 : decode cX6_keeps 60 = .ok (.iconst 0, 1) := dk_3 (dk_at dksX6_keeps_2 12 rfl rfl)
theorem dX6_keeps_61 : decode cX6_keeps 61 = .ok (.aload_n 0, 1) := dk_42 (dk_at dksX6_keeps_2 13 rfl rfl)
theorem dX6_keeps_62 : decode cX6_keeps 62 = .ok (.getfield 22, 3) := dk_180 0 22 (dk_at dksX6_keeps_2 14 rfl rfl)
theorem dX6_keeps_65 : decode cX6_keeps 65 = .ok (.sipush 222, 3) := dk_17 0 222 (dk_at dksX6_keeps_2 17 rfl rfl)
theorem dX6_keeps_68 : decode cX6_keeps 68 = .ok (.aload_n 0, 1) := dk_42 (dk_at dksX6_keeps_2 20 rfl rfl)
theorem dX6_keeps_69 : decode cX6_keeps 69 = .ok (.getfield 29, 3) := dk_180 0 29 (dk_at dksX6_keeps_2 21 rfl rfl)
theorem dX6_keeps_72 : decode cX6_keeps 72 = .ok (.imul, 1) := dk_104 (dk_at dksX6_keeps_3 0 rfl rfl)
theorem dX6_keeps_73 : decode cX6_keeps 73 = .ok (.invokestatic 79, 3) := dk_184 0 79 (dk_at dksX6_keeps_3 1 rfl rfl)
theorem dX6_keeps_76 : decode cX6_keeps 76 = .ok (.aload_n 0, 1) := dk_42 (dk_at dksX6_keeps_3 4 rfl rfl)
theorem dX6_keeps_77 : decode cX6_keeps 77 = .ok (.dup, 1) := dk_89 (dk_at dksX6_keeps_3 5 rfl rfl)
theorem dX6_keeps_78 : decode cX6_keeps 78 = .ok (.getfield 29, 3) := dk_180 0 29 (dk_at dksX6_keeps_3 6 rfl rfl)
theorem dX6_keeps_81 : decode cX6_keeps 81 = .ok (.iconst 1, 1) := dk_4 (dk_at dksX6_keeps_3 9 rfl rfl)
theorem dX6_keeps_82 : decode cX6_keeps 82 = .ok (.iadd, 1) := dk_96 (dk_at dksX6_keeps_3 10 rfl rfl)
theorem dX6_keeps_83 : decode cX6_keeps 83 = .ok (.putfield 29, 3) := dk_181 0 29 (dk_at dksX6_keeps_3 11 rfl rfl)
theorem dX6_keeps_86 : decode cX6_keeps 86 = .ok (.iload_n 1, 1) := dk_27 (dk_at dksX6_keeps_3 14 rfl rfl)
theorem dX6_keeps_87 : decode cX6_keeps 87 = .ok (.ireturn, 1) := dk_172 (dk_at dksX6_keeps_3 15 rfl rfl)
abbrev kX6_keeps : KX := (cX6_keeps, "TissueBalloonsModel", "keeps", 3, some .int, [], 1)
abbrev cX6_windOf : ByteArray := prog_14_method_27_code
def yX6_windOf : MethodName := ⟨RX6, "windOf", "(I)I"⟩
def dkwX6_windOf_1 : List UInt8 := [42, 4, 182, 0, 75, 172]
abbrev dktX6_windOf_1 : List UInt8 := dkwX6_windOf_1 ++ []
def dkwX6_windOf_0 : List UInt8 := [42, 3, 181, 0, 25, 27, 184, 0, 90, 153, 0, 15, 42, 180, 0, 7, 16, 8, 27, 96, 46, 167, 0, 8]
abbrev dktX6_windOf_0 : List UInt8 := dkwX6_windOf_0 ++ dktX6_windOf_1
theorem dksX6_windOf_0 : cX6_windOf.data.toList.drop 0 = dktX6_windOf_0 := by decide +kernel
theorem dksX6_windOf_1 : cX6_windOf.data.toList.drop 24 = dktX6_windOf_1 := dk_seg dksX6_windOf_0 24 rfl rfl
theorem dX6_windOf_0 : decode cX6_windOf 0 = .ok (.aload_n 0, 1) := dk_42 (dk_at dksX6_windOf_0 0 rfl rfl)
theorem dX6_windOf_1 : decode cX6_windOf 1 = .ok (.iconst 0, 1) := dk_3 (dk_at dksX6_windOf_0 1 rfl rfl)
theorem dX6_windOf_2 : decode cX6_windOf 2 = .ok (.putfield 25, 3) := dk_181 0 25 (dk_at dksX6_windOf_0 2 rfl rfl)
theorem dX6_windOf_5 : decode cX6_windOf 5 = .ok (.iload_n 1, 1) := dk_27 (dk_at dksX6_windOf_0 5 rfl rfl)
theorem dX6_windOf_6 : decode cX6_windOf 6 = .ok (.invokestatic 90, 3) := dk_184 0 90 (dk_at dksX6_windOf_0 6 rfl rfl)
theorem dX6_windOf_9 : decode cX6_windOf 9 = .ok (.ifCond .eq 15, 3) := dk_153 0 15 (dk_at dksX6_windOf_0 9 rfl rfl)
theorem dX6_windOf_12 : decode cX6_windOf 12 = .ok (.aload_n 0, 1) := dk_42 (dk_at dksX6_windOf_0 12 rfl rfl)
theorem dX6_windOf_13 : decode cX6_windOf 13 = .ok (.getfield 7, 3) := dk_180 0 7 (dk_at dksX6_windOf_0 13 rfl rfl)
theorem dX6_windOf_16 : decode cX6_windOf 16 = .ok (.bipush 8, 2) := dk_16 8 (dk_at dksX6_windOf_0 16 rfl rfl)
theorem dX6_windOf_18 : decode cX6_windOf 18 = .ok (.iload_n 1, 1) := dk_27 (dk_at dksX6_windOf_0 18 rfl rfl)
theorem dX6_windOf_19 : decode cX6_windOf 19 = .ok (.iadd, 1) := dk_96 (dk_at dksX6_windOf_0 19 rfl rfl)
theorem dX6_windOf_20 : decode cX6_windOf 20 = .ok (.iaload, 1) := dk_46 (dk_at dksX6_windOf_0 20 rfl rfl)
theorem dX6_windOf_21 : decode cX6_windOf 21 = .ok (.goto 8, 3) := dk_167 0 8 (dk_at dksX6_windOf_0 21 rfl rfl)
theorem dX6_windOf_24 : decode cX6_windOf 24 = .ok (.aload_n 0, 1) := dk_42 (dk_at dksX6_windOf_1 0 rfl rfl)
theorem dX6_windOf_25 : decode cX6_windOf 25 = .ok (.iconst 1, 1) := dk_4 (dk_at dksX6_windOf_1 1 rfl rfl)
theorem dX6_windOf_26 : decode cX6_windOf 26 = .ok (.invokevirtual 75, 3) := dk_182 0 75 (dk_at dksX6_windOf_1 2 rfl rfl)
theorem dX6_windOf_29 : decode cX6_windOf 29 = .ok (.ireturn, 1) := dk_172 (dk_at dksX6_windOf_1 5 rfl rfl)
abbrev kX6_windOf : KX := (cX6_windOf, "TissueBalloonsModel", "windOf", 2, some .int, [], 2)
abbrev cX6_roof : ByteArray := prog_14_method_29_code
def yX6_roof : MethodName := ⟨RX6, "roof", "(II)I"⟩
def dkwX6_roof_6 : List UInt8 := [180, 0, 7, 4, 46, 182, 0, 101, 172]
abbrev dktX6_roof_6 : List UInt8 := dkwX6_roof_6 ++ []
def dkwX6_roof_5 : List UInt8 := [182, 0, 120, 42, 21, 4, 4, 28, 182, 0, 120, 42, 180, 0, 7, 4, 92, 46, 4, 96, 79, 42, 42]
abbrev dktX6_roof_5 : List UInt8 := dkwX6_roof_5 ++ dktX6_roof_6
def dkwX6_roof_4 : List UInt8 := [8, 162, 0, 18, 42, 21, 4, 21, 5, 3, 182, 0, 120, 132, 5, 1, 167, 255, 238, 42, 21, 4, 3, 27]
abbrev dktX6_roof_4 : List UInt8 := dkwX6_roof_4 ++ dktX6_roof_5
def dkwX6_roof_3 : List UInt8 := [160, 0, 19, 42, 4, 16, 8, 182, 0, 113, 153, 0, 9, 42, 5, 182, 0, 117, 172, 3, 54, 5, 21, 5]
abbrev dktX6_roof_3 : List UInt8 := dkwX6_roof_3 ++ dktX6_roof_4
def dkwX6_roof_2 : List UInt8 := [182, 0, 113, 153, 0, 9, 42, 5, 182, 0, 117, 172, 42, 180, 0, 7, 4, 46, 54, 4, 21, 4, 16, 8]
abbrev dktX6_roof_2 : List UInt8 := dkwX6_roof_2 ++ dktX6_roof_3
def dkwX6_roof_1 : List UInt8 := [182, 0, 75, 172, 42, 27, 182, 0, 110, 62, 29, 155, 0, 23, 42, 5, 42, 29, 4, 182, 0, 104]
abbrev dktX6_roof_1 : List UInt8 := dkwX6_roof_1 ++ dktX6_roof_2
def dkwX6_roof_0 : List UInt8 := [42, 182, 0, 87, 27, 184, 0, 107, 153, 0, 13, 28, 3, 16, 9, 184, 0, 83, 154, 0, 9, 42, 4]
abbrev dktX6_roof_0 : List UInt8 := dkwX6_roof_0 ++ dktX6_roof_1
theorem dksX6_roof_0 : cX6_roof.data.toList.drop 0 = dktX6_roof_0 := by decide +kernel
theorem dksX6_roof_1 : cX6_roof.data.toList.drop 23 = dktX6_roof_1 := dk_seg dksX6_roof_0 23 rfl rfl
theorem dksX6_roof_2 : cX6_roof.data.toList.drop 45 = dktX6_roof_2 := dk_seg dksX6_roof_1 22 rfl rfl
theorem dksX6_roof_3 : cX6_roof.data.toList.drop 69 = dktX6_roof_3 := dk_seg dksX6_roof_2 24 rfl rfl
theorem dksX6_roof_4 : cX6_roof.data.toList.drop 93 = dktX6_roof_4 := dk_seg dksX6_roof_3 24 rfl rfl
theorem dksX6_roof_5 : cX6_roof.data.toList.drop 117 = dktX6_roof_5 := dk_seg dksX6_roof_4 24 rfl rfl
theorem dksX6_roof_6 : cX6_roof.data.toList.drop 140 = dktX6_roof_6 := dk_seg dksX6_roof_5 23 rfl rfl
theorem dX6_roof_0 : decode cX6_roof 0 = .ok (.aload_n 0, 1) := dk_42 (dk_at dksX6_roof_0 0 rfl rfl)
theorem dX6_roof_1 : decode cX6_roof 1 = .ok (.invokevirtual 87, 3) := dk_182 0 87 (dk_at dksX6_roof_0 1 rfl rfl)
theorem dX6_roof_4 : decode cX6_roof 4 = .ok (.iload_n 1, 1) := dk_27 (dk_at dksX6_roof_0 4 rfl rfl)
theorem dX6_roof_5 : decode cX6_roof 5 = .ok (.invokestatic 107, 3) := dk_184 0 107 (dk_at dksX6_roof_0 5 rfl rfl)
theorem dX6_roof_8 : decode cX6_roof 8 = .ok (.ifCond .eq 13, 3) := dk_153 0 13 (dk_at dksX6_roof_0 8 rfl rfl)
theorem dX6_roof_11 : decode cX6_roof 11 = .ok (.iload_n 2, 1) := dk_28 (dk_at dksX6_roof_0 11 rfl rfl)
theorem dX6_roof_12 : decode cX6_roof 12 = .ok (.iconst 0, 1) := dk_3 (dk_at dksX6_roof_0 12 rfl rfl)
theorem dX6_roof_13 : decode cX6_roof 13 = .ok (.bipush 9, 2) := dk_16 9 (dk_at dksX6_roof_0 13 rfl rfl)
theorem dX6_roof_15 : decode cX6_roof 15 = .ok (.invokestatic 83, 3) := dk_184 0 83 (dk_at dksX6_roof_0 15 rfl rfl)
theorem dX6_roof_18 : decode cX6_roof 18 = .ok (.ifCond .ne 9, 3) := dk_154 0 9 (dk_at dksX6_roof_0 18 rfl rfl)
theorem dX6_roof_21 : decode cX6_roof 21 = .ok (.aload_n 0, 1) := dk_42 (dk_at dksX6_roof_0 21 rfl rfl)
theorem dX6_roof_22 : decode cX6_roof 22 = .ok (.iconst 1, 1) := dk_4 (dk_at dksX6_roof_0 22 rfl rfl)
theorem dX6_roof_23 : decode cX6_roof 23 = .ok (.invokevirtual 75, 3) := dk_182 0 75 (dk_at dksX6_roof_1 0 rfl rfl)
theorem dX6_roof_26 : decode cX6_roof 26 = .ok (.ireturn, 1) := dk_172 (dk_at dksX6_roof_1 3 rfl rfl)
theorem dX6_roof_27 : decode cX6_roof 27 = .ok (.aload_n 0, 1) := dk_42 (dk_at dksX6_roof_1 4 rfl rfl)
theorem dX6_roof_28 : decode cX6_roof 28 = .ok (.iload_n 1, 1) := dk_27 (dk_at dksX6_roof_1 5 rfl rfl)
theorem dX6_roof_29 : decode cX6_roof 29 = .ok (.invokevirtual 110, 3) := dk_182 0 110 (dk_at dksX6_roof_1 6 rfl rfl)
theorem dX6_roof_32 : decode cX6_roof 32 = .ok (.istore_n 3, 1) := dk_62 (dk_at dksX6_roof_1 9 rfl rfl)
theorem dX6_roof_33 : decode cX6_roof 33 = .ok (.iload_n 3, 1) := dk_29 (dk_at dksX6_roof_1 10 rfl rfl)
theorem dX6_roof_34 : decode cX6_roof 34 = .ok (.ifCond .lt 23, 3) := dk_155 0 23 (dk_at dksX6_roof_1 11 rfl rfl)
theorem dX6_roof_37 : decode cX6_roof 37 = .ok (.aload_n 0, 1) := dk_42 (dk_at dksX6_roof_1 14 rfl rfl)
theorem dX6_roof_38 : decode cX6_roof 38 = .ok (.iconst 2, 1) := dk_5 (dk_at dksX6_roof_1 15 rfl rfl)
theorem dX6_roof_39 : decode cX6_roof 39 = .ok (.aload_n 0, 1) := dk_42 (dk_at dksX6_roof_1 16 rfl rfl)
theorem dX6_roof_40 : decode cX6_roof 40 = .ok (.iload_n 3, 1) := dk_29 (dk_at dksX6_roof_1 17 rfl rfl)
theorem dX6_roof_41 : decode cX6_roof 41 = .ok (.iconst 1, 1) := dk_4 (dk_at dksX6_roof_1 18 rfl rfl)
theorem dX6_roof_42 : decode cX6_roof 42 = .ok (.invokevirtual 104, 3) := dk_182 0 104 (dk_at dksX6_roof_1 19 rfl rfl)
theorem dX6_roof_45 : decode cX6_roof 45 = .ok (.invokevirtual 113, 3) := dk_182 0 113 (dk_at dksX6_roof_2 0 rfl rfl)
theorem dX6_roof_48 : decode cX6_roof 48 = .ok (.ifCond .eq 9, 3) := dk_153 0 9 (dk_at dksX6_roof_2 3 rfl rfl)
theorem dX6_roof_51 : decode cX6_roof 51 = .ok (.aload_n 0, 1) := dk_42 (dk_at dksX6_roof_2 6 rfl rfl)
theorem dX6_roof_52 : decode cX6_roof 52 = .ok (.iconst 2, 1) := dk_5 (dk_at dksX6_roof_2 7 rfl rfl)
theorem dX6_roof_53 : decode cX6_roof 53 = .ok (.invokevirtual 117, 3) := dk_182 0 117 (dk_at dksX6_roof_2 8 rfl rfl)
theorem dX6_roof_56 : decode cX6_roof 56 = .ok (.ireturn, 1) := dk_172 (dk_at dksX6_roof_2 11 rfl rfl)
theorem dX6_roof_57 : decode cX6_roof 57 = .ok (.aload_n 0, 1) := dk_42 (dk_at dksX6_roof_2 12 rfl rfl)
theorem dX6_roof_58 : decode cX6_roof 58 = .ok (.getfield 7, 3) := dk_180 0 7 (dk_at dksX6_roof_2 13 rfl rfl)
theorem dX6_roof_61 : decode cX6_roof 61 = .ok (.iconst 1, 1) := dk_4 (dk_at dksX6_roof_2 16 rfl rfl)
theorem dX6_roof_62 : decode cX6_roof 62 = .ok (.iaload, 1) := dk_46 (dk_at dksX6_roof_2 17 rfl rfl)
theorem dX6_roof_63 : decode cX6_roof 63 = .ok (.istore 4, 2) := dk_54 4 (dk_at dksX6_roof_2 18 rfl rfl)
theorem dX6_roof_65 : decode cX6_roof 65 = .ok (.iload 4, 2) := dk_21 4 (dk_at dksX6_roof_2 20 rfl rfl)
theorem dX6_roof_67 : decode cX6_roof 67 = .ok (.bipush 8, 2) := dk_16 8 (dk_at dksX6_roof_2 22 rfl rfl)
theorem dX6_roof_69 : decode cX6_roof 69 = .ok (.if_icmp .ne 19, 3) := dk_160 0 19 (dk_at dksX6_roof_3 0 rfl rfl)
theorem dX6_roof_72 : decode cX6_roof 72 = .ok (.aload_n 0, 1) := dk_42 (dk_at dksX6_roof_3 3 rfl rfl)
theorem dX6_roof_73 : decode cX6_roof 73 = .ok (.iconst 1, 1) := dk_4 (dk_at dksX6_roof_3 4 rfl rfl)
theorem dX6_roof_74 : decode cX6_roof 74 = .ok (.bipush 8, 2) := dk_16 8 (dk_at dksX6_roof_3 5 rfl rfl)
theorem dX6_roof_76 : decode cX6_roof 76 = .ok (.invokevirtual 113, 3) := dk_182 0 113 (dk_at dksX6_roof_3 7 rfl rfl)
theorem dX6_roof_79 : decode cX6_roof 79 = .ok (.ifCond .eq 9, 3) := dk_153 0 9 (dk_at dksX6_roof_3 10 rfl rfl)
theorem dX6_roof_82 : decode cX6_roof 82 = .ok (.aload_n 0, 1) := dk_42 (dk_at dksX6_roof_3 13 rfl rfl)
theorem dX6_roof_83 : decode cX6_roof 83 = .ok (.iconst 2, 1) := dk_5 (dk_at dksX6_roof_3 14 rfl rfl)
theorem dX6_roof_84 : decode cX6_roof 84 = .ok (.invokevirtual 117, 3) := dk_182 0 117 (dk_at dksX6_roof_3 15 rfl rfl)
theorem dX6_roof_87 : decode cX6_roof 87 = .ok (.ireturn, 1) := dk_172 (dk_at dksX6_roof_3 18 rfl rfl)
theorem dX6_roof_88 : decode cX6_roof 88 = .ok (.iconst 0, 1) := dk_3 (dk_at dksX6_roof_3 19 rfl rfl)
theorem dX6_roof_89 : decode cX6_roof 89 = .ok (.istore 5, 2) := dk_54 5 (dk_at dksX6_roof_3 20 rfl rfl)
theorem dX6_roof_91 : decode cX6_roof 91 = .ok (.iload 5, 2) := dk_21 5 (dk_at dksX6_roof_3 22 rfl rfl)
theorem dX6_roof_93 : decode cX6_roof 93 = .ok (.iconst 5, 1) := dk_8 (dk_at dksX6_roof_4 0 rfl rfl)
theorem dX6_roof_94 : decode cX6_roof 94 = .ok (.if_icmp .ge 18, 3) := dk_162 0 18 (dk_at dksX6_roof_4 1 rfl rfl)
theorem dX6_roof_97 : decode cX6_roof 97 = .ok (.aload_n 0, 1) := dk_42 (dk_at dksX6_roof_4 4 rfl rfl)
theorem dX6_roof_98 : decode cX6_roof 98 = .ok (.iload 4, 2) := dk_21 4 (dk_at dksX6_roof_4 5 rfl rfl)
theorem dX6_roof_100 : decode cX6_roof 100 = .ok (.iload 5, 2) := dk_21 5 (dk_at dksX6_roof_4 7 rfl rfl)
theorem dX6_roof_102 : decode cX6_roof 102 = .ok (.iconst 0, 1) := dk_3 (dk_at dksX6_roof_4 9 rfl rfl)
theorem dX6_roof_103 : decode cX6_roof 103 = .ok (.invokevirtual 120, 3) := dk_182 0 120 (dk_at dksX6_roof_4 10 rfl rfl)
theorem dX6_roof_106 : decode cX6_roof 106 = .ok (.iinc 5 1, 3) := dk_132 5 1 (dk_at dksX6_roof_4 13 rfl rfl)
theorem dX6_roof_109 : decode cX6_roof 109 = .ok (.goto (-18), 3) := dk_167 255 238 (dk_at dksX6_roof_4 16 rfl rfl)
theorem dX6_roof_112 : decode cX6_roof 112 = .ok (.aload_n 0, 1) := dk_42 (dk_at dksX6_roof_4 19 rfl rfl)
theorem dX6_roof_113 : decode cX6_roof 113 = .ok (.iload 4, 2) := dk_21 4 (dk_at dksX6_roof_4 20 rfl rfl)
theorem dX6_roof_115 : decode cX6_roof 115 = .ok (.iconst 0, 1) := dk_3 (dk_at dksX6_roof_4 22 rfl rfl)
theorem dX6_roof_116 : decode cX6_roof 116 = .ok (.iload_n 1, 1) := dk_27 (dk_at dksX6_roof_4 23 rfl rfl)
theorem dX6_roof_117 : decode cX6_roof 117 = .ok (.invokevirtual 120, 3) := dk_182 0 120 (dk_at dksX6_roof_5 0 rfl rfl)
theorem dX6_roof_120 : decode cX6_roof 120 = .ok (.aload_n 0, 1) := dk_42 (dk_at dksX6_roof_5 3 rfl rfl)
theorem dX6_roof_121 : decode cX6_roof 121 = .ok (.iload 4, 2) := dk_21 4 (dk_at dksX6_roof_5 4 rfl rfl)
theorem dX6_roof_123 : decode cX6_roof 123 = .ok (.iconst 1, 1) := dk_4 (dk_at dksX6_roof_5 6 rfl rfl)
theorem dX6_roof_124 : decode cX6_roof 124 = .ok (.iload_n 2, 1) := dk_28 (dk_at dksX6_roof_5 7 rfl rfl)
theorem dX6_roof_125 : decode cX6_roof 125 = .ok (.invokevirtual 120, 3) := dk_182 0 120 (dk_at dksX6_roof_5 8 rfl rfl)
theorem dX6_roof_128 : decode cX6_roof 128 = .ok (.aload_n 0, 1) := dk_42 (dk_at dksX6_roof_5 11 rfl rfl)
theorem dX6_roof_129 : decode cX6_roof 129 = .ok (.getfield 7, 3) := dk_180 0 7 (dk_at dksX6_roof_5 12 rfl rfl)
theorem dX6_roof_132 : decode cX6_roof 132 = .ok (.iconst 1, 1) := dk_4 (dk_at dksX6_roof_5 15 rfl rfl)
theorem dX6_roof_133 : decode cX6_roof 133 = .ok (.dup2, 1) := dk_92 (dk_at dksX6_roof_5 16 rfl rfl)
theorem dX6_roof_134 : decode cX6_roof 134 = .ok (.iaload, 1) := dk_46 (dk_at dksX6_roof_5 17 rfl rfl)
theorem dX6_roof_135 : decode cX6_roof 135 = .ok (.iconst 1, 1) := dk_4 (dk_at dksX6_roof_5 18 rfl rfl)
theorem dX6_roof_136 : decode cX6_roof 136 = .ok (.iadd, 1) := dk_96 (dk_at dksX6_roof_5 19 rfl rfl)
theorem dX6_roof_137 : decode cX6_roof 137 = .ok (.iastore, 1) := dk_79 (dk_at dksX6_roof_5 20 rfl rfl)
theorem dX6_roof_138 : decode cX6_roof 138 = .ok (.aload_n 0, 1) := dk_42 (dk_at dksX6_roof_5 21 rfl rfl)
theorem dX6_roof_139 : decode cX6_roof 139 = .ok (.aload_n 0, 1) := dk_42 (dk_at dksX6_roof_5 22 rfl rfl)
theorem dX6_roof_140 : decode cX6_roof 140 = .ok (.getfield 7, 3) := dk_180 0 7 (dk_at dksX6_roof_6 0 rfl rfl)
theorem dX6_roof_143 : decode cX6_roof 143 = .ok (.iconst 1, 1) := dk_4 (dk_at dksX6_roof_6 3 rfl rfl)
theorem dX6_roof_144 : decode cX6_roof 144 = .ok (.iaload, 1) := dk_46 (dk_at dksX6_roof_6 4 rfl rfl)
theorem dX6_roof_145 : decode cX6_roof 145 = .ok (.invokevirtual 101, 3) := dk_182 0 101 (dk_at dksX6_roof_6 5 rfl rfl)
theorem dX6_roof_148 : decode cX6_roof 148 = .ok (.ireturn, 1) := dk_172 (dk_at dksX6_roof_6 8 rfl rfl)
abbrev kX6_roof : KX := (cX6_roof, "TissueBalloonsModel", "roof", 6, some .int, [], 2)
abbrev cX6_isPlace : ByteArray := prog_14_method_20_code
def yX6_isPlace : MethodName := ⟨RX6, "isPlace", "(I)Z"⟩
def dkwX6_isPlace_0 : List UInt8 := [26, 3, 16, 60, 184, 0, 83, 172]
abbrev dktX6_isPlace_0 : List UInt8 := dkwX6_isPlace_0 ++ []
theorem dksX6_isPlace_0 : cX6_isPlace.data.toList.drop 0 = dktX6_isPlace_0 := by decide +kernel
theorem dX6_isPlace_0 : decode cX6_isPlace 0 = .ok (.iload_n 0, 1) := dk_26 (dk_at dksX6_isPlace_0 0 rfl rfl)
theorem dX6_isPlace_1 : decode cX6_isPlace 1 = .ok (.iconst 0, 1) := dk_3 (dk_at dksX6_isPlace_0 1 rfl rfl)
theorem dX6_isPlace_2 : decode cX6_isPlace 2 = .ok (.bipush 60, 2) := dk_16 60 (dk_at dksX6_isPlace_0 2 rfl rfl)
theorem dX6_isPlace_4 : decode cX6_isPlace 4 = .ok (.invokestatic 83, 3) := dk_184 0 83 (dk_at dksX6_isPlace_0 4 rfl rfl)
theorem dX6_isPlace_7 : decode cX6_isPlace 7 = .ok (.ireturn, 1) := dk_172 (dk_at dksX6_isPlace_0 7 rfl rfl)
abbrev kX6_isPlace : KX := (cX6_isPlace, "TissueBalloonsModel", "isPlace", 1, some .boolean, [], 1)
abbrev cX6_roofAtPlace : ByteArray := prog_14_method_28_code
def yX6_roofAtPlace : MethodName := ⟨RX6, "roofAtPlace", "(I)I"⟩
def dkwX6_roofAtPlace_1 : List UInt8 := [132, 2, 1, 167, 255, 231, 2, 172]
abbrev dktX6_roofAtPlace_1 : List UInt8 := dkwX6_roofAtPlace_1 ++ []
def dkwX6_roofAtPlace_0 : List UInt8 := [3, 61, 28, 42, 180, 0, 7, 4, 46, 162, 0, 21, 42, 28, 3, 182, 0, 104, 27, 160, 0, 5, 28, 172]
abbrev dktX6_roofAtPlace_0 : List UInt8 := dkwX6_roofAtPlace_0 ++ dktX6_roofAtPlace_1
theorem dksX6_roofAtPlace_0 : cX6_roofAtPlace.data.toList.drop 0 = dktX6_roofAtPlace_0 := by decide +kernel
theorem dksX6_roofAtPlace_1 : cX6_roofAtPlace.data.toList.drop 24 = dktX6_roofAtPlace_1 := dk_seg dksX6_roofAtPlace_0 24 rfl rfl
theorem dX6_roofAtPlace_0 : decode cX6_roofAtPlace 0 = .ok (.iconst 0, 1) := dk_3 (dk_at dksX6_roofAtPlace_0 0 rfl rfl)
theorem dX6_roofAtPlace_1 : decode cX6_roofAtPlace 1 = .ok (.istore_n 2, 1) := dk_61 (dk_at dksX6_roofAtPlace_0 1 rfl rfl)
theorem dX6_roofAtPlace_2 : decode cX6_roofAtPlace 2 = .ok (.iload_n 2, 1) := dk_28 (dk_at dksX6_roofAtPlace_0 2 rfl rfl)
theorem dX6_roofAtPlace_3 : decode cX6_roofAtPlace 3 = .ok (.aload_n 0, 1) := dk_42 (dk_at dksX6_roofAtPlace_0 3 rfl rfl)
theorem dX6_roofAtPlace_4 : decode cX6_roofAtPlace 4 = .ok (.getfield 7, 3) := dk_180 0 7 (dk_at dksX6_roofAtPlace_0 4 rfl rfl)
theorem dX6_roofAtPlace_7 : decode cX6_roofAtPlace 7 = .ok (.iconst 1, 1) := dk_4 (dk_at dksX6_roofAtPlace_0 7 rfl rfl)
theorem dX6_roofAtPlace_8 : decode cX6_roofAtPlace 8 = .ok (.iaload, 1) := dk_46 (dk_at dksX6_roofAtPlace_0 8 rfl rfl)
theorem dX6_roofAtPlace_9 : decode cX6_roofAtPlace 9 = .ok (.if_icmp .ge 21, 3) := dk_162 0 21 (dk_at dksX6_roofAtPlace_0 9 rfl rfl)
theorem dX6_roofAtPlace_12 : decode cX6_roofAtPlace 12 = .ok (.aload_n 0, 1) := dk_42 (dk_at dksX6_roofAtPlace_0 12 rfl rfl)
theorem dX6_roofAtPlace_13 : decode cX6_roofAtPlace 13 = .ok (.iload_n 2, 1) := dk_28 (dk_at dksX6_roofAtPlace_0 13 rfl rfl)
theorem dX6_roofAtPlace_14 : decode cX6_roofAtPlace 14 = .ok (.iconst 0, 1) := dk_3 (dk_at dksX6_roofAtPlace_0 14 rfl rfl)
theorem dX6_roofAtPlace_15 : decode cX6_roofAtPlace 15 = .ok (.invokevirtual 104, 3) := dk_182 0 104 (dk_at dksX6_roofAtPlace_0 15 rfl rfl)
theorem dX6_roofAtPlace_18 : decode cX6_roofAtPlace 18 = .ok (.iload_n 1, 1) := dk_27 (dk_at dksX6_roofAtPlace_0 18 rfl rfl)
theorem dX6_roofAtPlace_19 : decode cX6_roofAtPlace 19 = .ok (.if_icmp .ne 5, 3) := dk_160 0 5 (dk_at dksX6_roofAtPlace_0 19 rfl rfl)
theorem dX6_roofAtPlace_22 : decode cX6_roofAtPlace 22 = .ok (.iload_n 2, 1) := dk_28 (dk_at dksX6_roofAtPlace_0 22 rfl rfl)
theorem dX6_roofAtPlace_23 : decode cX6_roofAtPlace 23 = .ok (.ireturn, 1) := dk_172 (dk_at dksX6_roofAtPlace_0 23 rfl rfl)
theorem dX6_roofAtPlace_24 : decode cX6_roofAtPlace 24 = .ok (.iinc 2 1, 3) := dk_132 2 1 (dk_at dksX6_roofAtPlace_1 0 rfl rfl)
theorem dX6_roofAtPlace_27 : decode cX6_roofAtPlace 27 = .ok (.goto (-25), 3) := dk_167 255 231 (dk_at dksX6_roofAtPlace_1 3 rfl rfl)
theorem dX6_roofAtPlace_30 : decode cX6_roofAtPlace 30 = .ok (.iconst (-1), 1) := dk_2 (dk_at dksX6_roofAtPlace_1 6 rfl rfl)
theorem dX6_roofAtPlace_31 : decode cX6_roofAtPlace 31 = .ok (.ireturn, 1) := dk_172 (dk_at dksX6_roofAtPlace_1 7 rfl rfl)
abbrev kX6_roofAtPlace : KX := (cX6_roofAtPlace, "TissueBalloonsModel", "roofAtPlace", 3, some .int, [], 1)
abbrev cX6_rv : ByteArray := prog_14_method_12_code
def yX6_rv : MethodName := ⟨RX6, "rv", "(II)I"⟩
def dkwX6_rv_0 : List UInt8 := [42, 180, 0, 7, 16, 12, 8, 27, 104, 96, 28, 96, 46, 172]
abbrev dktX6_rv_0 : List UInt8 := dkwX6_rv_0 ++ []
theorem dksX6_rv_0 : cX6_rv.data.toList.drop 0 = dktX6_rv_0 := by decide +kernel
theorem dX6_rv_0 : decode cX6_rv 0 = .ok (.aload_n 0, 1) := dk_42 (dk_at dksX6_rv_0 0 rfl rfl)
theorem dX6_rv_1 : decode cX6_rv 1 = .ok (.getfield 7, 3) := dk_180 0 7 (dk_at dksX6_rv_0 1 rfl rfl)
theorem dX6_rv_4 : decode cX6_rv 4 = .ok (.bipush 12, 2) := dk_16 12 (dk_at dksX6_rv_0 4 rfl rfl)
theorem dX6_rv_6 : decode cX6_rv 6 = .ok (.iconst 5, 1) := dk_8 (dk_at dksX6_rv_0 6 rfl rfl)
theorem dX6_rv_7 : decode cX6_rv 7 = .ok (.iload_n 1, 1) := dk_27 (dk_at dksX6_rv_0 7 rfl rfl)
theorem dX6_rv_8 : decode cX6_rv 8 = .ok (.imul, 1) := dk_104 (dk_at dksX6_rv_0 8 rfl rfl)
theorem dX6_rv_9 : decode cX6_rv 9 = .ok (.iadd, 1) := dk_96 (dk_at dksX6_rv_0 9 rfl rfl)
theorem dX6_rv_10 : decode cX6_rv 10 = .ok (.iload_n 2, 1) := dk_28 (dk_at dksX6_rv_0 10 rfl rfl)
theorem dX6_rv_11 : decode cX6_rv 11 = .ok (.iadd, 1) := dk_96 (dk_at dksX6_rv_0 11 rfl rfl)
theorem dX6_rv_12 : decode cX6_rv 12 = .ok (.iaload, 1) := dk_46 (dk_at dksX6_rv_0 12 rfl rfl)
theorem dX6_rv_13 : decode cX6_rv 13 = .ok (.ireturn, 1) := dk_172 (dk_at dksX6_rv_0 13 rfl rfl)
abbrev kX6_rv : KX := (cX6_rv, "TissueBalloonsModel", "rv", 3, some .int, [], 0)
abbrev cX6_isBad : ByteArray := prog_14_method_8_code
def yX6_isBad : MethodName := ⟨RX6, "isBad", "(II)Z"⟩
def dkwX6_isBad_0 : List UInt8 := [42, 27, 181, 0, 32, 42, 28, 181, 0, 35, 4, 172]
abbrev dktX6_isBad_0 : List UInt8 := dkwX6_isBad_0 ++ []
theorem dksX6_isBad_0 : cX6_isBad.data.toList.drop 0 = dktX6_isBad_0 := by decide +kernel
theorem dX6_isBad_0 : decode cX6_isBad 0 = .ok (.aload_n 0, 1) := dk_42 (dk_at dksX6_isBad_0 0 rfl rfl)
theorem dX6_isBad_1 : decode cX6_isBad 1 = .ok (.iload_n 1, 1) := dk_27 (dk_at dksX6_isBad_0 1 rfl rfl)
theorem dX6_isBad_2 : decode cX6_isBad 2 = .ok (.putfield 32, 3) := dk_181 0 32 (dk_at dksX6_isBad_0 2 rfl rfl)
theorem dX6_isBad_5 : decode cX6_isBad 5 = .ok (.aload_n 0, 1) := dk_42 (dk_at dksX6_isBad_0 5 rfl rfl)
theorem dX6_isBad_6 : decode cX6_isBad 6 = .ok (.iload_n 2, 1) := dk_28 (dk_at dksX6_isBad_0 6 rfl rfl)
theorem dX6_isBad_7 : decode cX6_isBad 7 = .ok (.putfield 35, 3) := dk_181 0 35 (dk_at dksX6_isBad_0 7 rfl rfl)
theorem dX6_isBad_10 : decode cX6_isBad 10 = .ok (.iconst 1, 1) := dk_4 (dk_at dksX6_isBad_0 10 rfl rfl)
theorem dX6_isBad_11 : decode cX6_isBad 11 = .ok (.ireturn, 1) := dk_172 (dk_at dksX6_isBad_0 11 rfl rfl)
abbrev kX6_isBad : KX := (cX6_isBad, "TissueBalloonsModel", "isBad", 3, some .boolean, [], 0)
abbrev cX6_refused : ByteArray := prog_14_method_9_code
def yX6_refused : MethodName := ⟨RX6, "refused", "(I)I"⟩
def dkwX6_refused_0 : List UInt8 := [42, 42, 180, 0, 32, 181, 0, 38, 42, 42, 180, 0, 35, 181, 0, 41, 42, 27, 182, 0, 75, 172]
abbrev dktX6_refused_0 : List UInt8 := dkwX6_refused_0 ++ []
theorem dksX6_refused_0 : cX6_refused.data.toList.drop 0 = dktX6_refused_0 := by decide +kernel
theorem dX6_refused_0 : decode cX6_refused 0 = .ok (.aload_n 0, 1) := dk_42 (dk_at dksX6_refused_0 0 rfl rfl)
theorem dX6_refused_1 : decode cX6_refused 1 = .ok (.aload_n 0, 1) := dk_42 (dk_at dksX6_refused_0 1 rfl rfl)
theorem dX6_refused_2 : decode cX6_refused 2 = .ok (.getfield 32, 3) := dk_180 0 32 (dk_at dksX6_refused_0 2 rfl rfl)
theorem dX6_refused_5 : decode cX6_refused 5 = .ok (.putfield 38, 3) := dk_181 0 38 (dk_at dksX6_refused_0 5 rfl rfl)
theorem dX6_refused_8 : decode cX6_refused 8 = .ok (.aload_n 0, 1) := dk_42 (dk_at dksX6_refused_0 8 rfl rfl)
theorem dX6_refused_9 : decode cX6_refused 9 = .ok (.aload_n 0, 1) := dk_42 (dk_at dksX6_refused_0 9 rfl rfl)
theorem dX6_refused_10 : decode cX6_refused 10 = .ok (.getfield 35, 3) := dk_180 0 35 (dk_at dksX6_refused_0 10 rfl rfl)
theorem dX6_refused_13 : decode cX6_refused 13 = .ok (.putfield 41, 3) := dk_181 0 41 (dk_at dksX6_refused_0 13 rfl rfl)
theorem dX6_refused_16 : decode cX6_refused 16 = .ok (.aload_n 0, 1) := dk_42 (dk_at dksX6_refused_0 16 rfl rfl)
theorem dX6_refused_17 : decode cX6_refused 17 = .ok (.iload_n 1, 1) := dk_27 (dk_at dksX6_refused_0 17 rfl rfl)
theorem dX6_refused_18 : decode cX6_refused 18 = .ok (.invokevirtual 75, 3) := dk_182 0 75 (dk_at dksX6_refused_0 18 rfl rfl)
theorem dX6_refused_21 : decode cX6_refused 21 = .ok (.ireturn, 1) := dk_172 (dk_at dksX6_refused_0 21 rfl rfl)
abbrev kX6_refused : KX := (cX6_refused, "TissueBalloonsModel", "refused", 2, some .int, [], 1)
abbrev cX6_lr : ByteArray := prog_14_method_13_code
def yX6_lr : MethodName := ⟨RX6, "lr", "(III)V"⟩
def dkwX6_lr_0 : List UInt8 := [42, 180, 0, 7, 16, 12, 8, 27, 104, 96, 28, 96, 29, 79, 177]
abbrev dktX6_lr_0 : List UInt8 := dkwX6_lr_0 ++ []
theorem dksX6_lr_0 : cX6_lr.data.toList.drop 0 = dktX6_lr_0 := by decide +kernel
theorem dX6_lr_0 : decode cX6_lr 0 = .ok (.aload_n 0, 1) := dk_42 (dk_at dksX6_lr_0 0 rfl rfl)
theorem dX6_lr_1 : decode cX6_lr 1 = .ok (.getfield 7, 3) := dk_180 0 7 (dk_at dksX6_lr_0 1 rfl rfl)
theorem dX6_lr_4 : decode cX6_lr 4 = .ok (.bipush 12, 2) := dk_16 12 (dk_at dksX6_lr_0 4 rfl rfl)
theorem dX6_lr_6 : decode cX6_lr 6 = .ok (.iconst 5, 1) := dk_8 (dk_at dksX6_lr_0 6 rfl rfl)
theorem dX6_lr_7 : decode cX6_lr 7 = .ok (.iload_n 1, 1) := dk_27 (dk_at dksX6_lr_0 7 rfl rfl)
theorem dX6_lr_8 : decode cX6_lr 8 = .ok (.imul, 1) := dk_104 (dk_at dksX6_lr_0 8 rfl rfl)
theorem dX6_lr_9 : decode cX6_lr 9 = .ok (.iadd, 1) := dk_96 (dk_at dksX6_lr_0 9 rfl rfl)
theorem dX6_lr_10 : decode cX6_lr 10 = .ok (.iload_n 2, 1) := dk_28 (dk_at dksX6_lr_0 10 rfl rfl)
theorem dX6_lr_11 : decode cX6_lr 11 = .ok (.iadd, 1) := dk_96 (dk_at dksX6_lr_0 11 rfl rfl)
theorem dX6_lr_12 : decode cX6_lr 12 = .ok (.iload_n 3, 1) := dk_29 (dk_at dksX6_lr_0 12 rfl rfl)
theorem dX6_lr_13 : decode cX6_lr 13 = .ok (.iastore, 1) := dk_79 (dk_at dksX6_lr_0 13 rfl rfl)
theorem dX6_lr_14 : decode cX6_lr 14 = .ok (.return_, 1) := dk_177 (dk_at dksX6_lr_0 14 rfl rfl)
abbrev kX6_lr : KX := (cX6_lr, "TissueBalloonsModel", "lr", 4, none, [], 0)
abbrev cX6_roofOf : ByteArray := prog_14_method_30_code
def yX6_roofOf : MethodName := ⟨RX6, "roofOf", "(II)I"⟩
def dkwX6_roofOf_1 : List UInt8 := [184, 0, 83, 153, 0, 14, 42, 29, 28, 4, 96, 182, 0, 104, 167, 0, 8, 42, 5, 182, 0, 75, 172]
abbrev dktX6_roofOf_1 : List UInt8 := dkwX6_roofOf_1 ++ []
def dkwX6_roofOf_0 : List UInt8 := [42, 3, 181, 0, 25, 42, 27, 182, 0, 110, 62, 29, 156, 0, 9, 42, 4, 182, 0, 75, 172, 28, 3, 6]
abbrev dktX6_roofOf_0 : List UInt8 := dkwX6_roofOf_0 ++ dktX6_roofOf_1
theorem dksX6_roofOf_0 : cX6_roofOf.data.toList.drop 0 = dktX6_roofOf_0 := by decide +kernel
theorem dksX6_roofOf_1 : cX6_roofOf.data.toList.drop 24 = dktX6_roofOf_1 := dk_seg dksX6_roofOf_0 24 rfl rfl
theorem dX6_roofOf_0 : decode cX6_roofOf 0 = .ok (.aload_n 0, 1) := dk_42 (dk_at dksX6_roofOf_0 0 rfl rfl)
theorem dX6_roofOf_1 : decode cX6_roofOf 1 = .ok (.iconst 0, 1) := dk_3 (dk_at dksX6_roofOf_0 1 rfl rfl)
theorem dX6_roofOf_2 : decode cX6_roofOf 2 = .ok (.putfield 25, 3) := dk_181 0 25 (dk_at dksX6_roofOf_0 2 rfl rfl)
theorem dX6_roofOf_5 : decode cX6_roofOf 5 = .ok (.aload_n 0, 1) := dk_42 (dk_at dksX6_roofOf_0 5 rfl rfl)
theorem dX6_roofOf_6 : decode cX6_roofOf 6 = .ok (.iload_n 1, 1) := dk_27 (dk_at dksX6_roofOf_0 6 rfl rfl)
theorem dX6_roofOf_7 : decode cX6_roofOf 7 = .ok (.invokevirtual 110, 3) := dk_182 0 110 (dk_at dksX6_roofOf_0 7 rfl rfl)
theorem dX6_roofOf_10 : decode cX6_roofOf 10 = .ok (.istore_n 3, 1) := dk_62 (dk_at dksX6_roofOf_0 10 rfl rfl)
theorem dX6_roofOf_11 : decode cX6_roofOf 11 = .ok (.iload_n 3, 1) := dk_29 (dk_at dksX6_roofOf_0 11 rfl rfl)
theorem dX6_roofOf_12 : decode cX6_roofOf 12 = .ok (.ifCond .ge 9, 3) := dk_156 0 9 (dk_at dksX6_roofOf_0 12 rfl rfl)
theorem dX6_roofOf_15 : decode cX6_roofOf 15 = .ok (.aload_n 0, 1) := dk_42 (dk_at dksX6_roofOf_0 15 rfl rfl)
theorem dX6_roofOf_16 : decode cX6_roofOf 16 = .ok (.iconst 1, 1) := dk_4 (dk_at dksX6_roofOf_0 16 rfl rfl)
theorem dX6_roofOf_17 : decode cX6_roofOf 17 = .ok (.invokevirtual 75, 3) := dk_182 0 75 (dk_at dksX6_roofOf_0 17 rfl rfl)
theorem dX6_roofOf_20 : decode cX6_roofOf 20 = .ok (.ireturn, 1) := dk_172 (dk_at dksX6_roofOf_0 20 rfl rfl)
theorem dX6_roofOf_21 : decode cX6_roofOf 21 = .ok (.iload_n 2, 1) := dk_28 (dk_at dksX6_roofOf_0 21 rfl rfl)
theorem dX6_roofOf_22 : decode cX6_roofOf 22 = .ok (.iconst 0, 1) := dk_3 (dk_at dksX6_roofOf_0 22 rfl rfl)
theorem dX6_roofOf_23 : decode cX6_roofOf 23 = .ok (.iconst 3, 1) := dk_6 (dk_at dksX6_roofOf_0 23 rfl rfl)
theorem dX6_roofOf_24 : decode cX6_roofOf 24 = .ok (.invokestatic 83, 3) := dk_184 0 83 (dk_at dksX6_roofOf_1 0 rfl rfl)
theorem dX6_roofOf_27 : decode cX6_roofOf 27 = .ok (.ifCond .eq 14, 3) := dk_153 0 14 (dk_at dksX6_roofOf_1 3 rfl rfl)
theorem dX6_roofOf_30 : decode cX6_roofOf 30 = .ok (.aload_n 0, 1) := dk_42 (dk_at dksX6_roofOf_1 6 rfl rfl)
theorem dX6_roofOf_31 : decode cX6_roofOf 31 = .ok (.iload_n 3, 1) := dk_29 (dk_at dksX6_roofOf_1 7 rfl rfl)
theorem dX6_roofOf_32 : decode cX6_roofOf 32 = .ok (.iload_n 2, 1) := dk_28 (dk_at dksX6_roofOf_1 8 rfl rfl)
theorem dX6_roofOf_33 : decode cX6_roofOf 33 = .ok (.iconst 1, 1) := dk_4 (dk_at dksX6_roofOf_1 9 rfl rfl)
theorem dX6_roofOf_34 : decode cX6_roofOf 34 = .ok (.iadd, 1) := dk_96 (dk_at dksX6_roofOf_1 10 rfl rfl)
theorem dX6_roofOf_35 : decode cX6_roofOf 35 = .ok (.invokevirtual 104, 3) := dk_182 0 104 (dk_at dksX6_roofOf_1 11 rfl rfl)
theorem dX6_roofOf_38 : decode cX6_roofOf 38 = .ok (.goto 8, 3) := dk_167 0 8 (dk_at dksX6_roofOf_1 14 rfl rfl)
theorem dX6_roofOf_41 : decode cX6_roofOf 41 = .ok (.aload_n 0, 1) := dk_42 (dk_at dksX6_roofOf_1 17 rfl rfl)
theorem dX6_roofOf_42 : decode cX6_roofOf 42 = .ok (.iconst 2, 1) := dk_5 (dk_at dksX6_roofOf_1 18 rfl rfl)
theorem dX6_roofOf_43 : decode cX6_roofOf 43 = .ok (.invokevirtual 75, 3) := dk_182 0 75 (dk_at dksX6_roofOf_1 19 rfl rfl)
theorem dX6_roofOf_46 : decode cX6_roofOf 46 = .ok (.ireturn, 1) := dk_172 (dk_at dksX6_roofOf_1 22 rfl rfl)
abbrev kX6_roofOf : KX := (cX6_roofOf, "TissueBalloonsModel", "roofOf", 4, some .int, [], 2)
abbrev cX6_roofAt : ByteArray := prog_14_method_31_code
def yX6_roofAt : MethodName := ⟨RX6, "roofAt", "(I)I"⟩
def dkwX6_roofAt_3 : List UInt8 := [182, 0, 104, 172, 132, 2, 1, 167, 255, 185, 42, 4, 182, 0, 75, 172]
abbrev dktX6_roofAt_3 : List UInt8 := dkwX6_roofAt_3 ++ []
def dkwX6_roofAt_2 : List UInt8 := [162, 0, 7, 4, 167, 0, 4, 3, 96, 62, 132, 4, 1, 167, 255, 218, 29, 27, 160, 0, 10, 42, 28, 3]
abbrev dktX6_roofAt_2 : List UInt8 := dkwX6_roofAt_2 ++ dktX6_roofAt_3
def dkwX6_roofAt_1 : List UInt8 := [42, 180, 0, 7, 4, 46, 162, 0, 33, 29, 42, 21, 4, 3, 182, 0, 104, 42, 28, 3, 182, 0, 104]
abbrev dktX6_roofAt_1 : List UInt8 := dkwX6_roofAt_1 ++ dktX6_roofAt_2
def dkwX6_roofAt_0 : List UInt8 := [42, 3, 181, 0, 25, 3, 61, 28, 42, 180, 0, 7, 4, 46, 162, 0, 67, 3, 62, 3, 54, 4, 21, 4]
abbrev dktX6_roofAt_0 : List UInt8 := dkwX6_roofAt_0 ++ dktX6_roofAt_1
theorem dksX6_roofAt_0 : cX6_roofAt.data.toList.drop 0 = dktX6_roofAt_0 := by decide +kernel
theorem dksX6_roofAt_1 : cX6_roofAt.data.toList.drop 24 = dktX6_roofAt_1 := dk_seg dksX6_roofAt_0 24 rfl rfl
theorem dksX6_roofAt_2 : cX6_roofAt.data.toList.drop 47 = dktX6_roofAt_2 := dk_seg dksX6_roofAt_1 23 rfl rfl
theorem dksX6_roofAt_3 : cX6_roofAt.data.toList.drop 71 = dktX6_roofAt_3 := dk_seg dksX6_roofAt_2 24 rfl rfl
theorem dX6_roofAt_0 : decode cX6_roofAt 0 = .ok (.aload_n 0, 1) := dk_42 (dk_at dksX6_roofAt_0 0 rfl rfl)
theorem dX6_roofAt_1 : decode cX6_roofAt 1 = .ok (.iconst 0, 1) := dk_3 (dk_at dksX6_roofAt_0 1 rfl rfl)
theorem dX6_roofAt_2 : decode cX6_roofAt 2 = .ok (.putfield 25, 3) := dk_181 0 25 (dk_at dksX6_roofAt_0 2 rfl rfl)
theorem dX6_roofAt_5 : decode cX6_roofAt 5 = .ok (.iconst 0, 1) := dk_3 (dk_at dksX6_roofAt_0 5 rfl rfl)
theorem dX6_roofAt_6 : decode cX6_roofAt 6 = .ok (.istore_n 2, 1) := dk_61 (dk_at dksX6_roofAt_0 6 rfl rfl)
theorem dX6_roofAt_7 : decode cX6_roofAt 7 = .ok (.iload_n 2, 1) := dk_28 (dk_at dksX6_roofAt_0 7 rfl rfl)
theorem dX6_roofAt_8 : decode cX6_roofAt 8 = .ok (.aload_n 0, 1) := dk_42 (dk_at dksX6_roofAt_0 8 rfl rfl)
theorem dX6_roofAt_9 : decode cX6_roofAt 9 = .ok (.getfield 7, 3) := dk_180 0 7 (dk_at dksX6_roofAt_0 9 rfl rfl)
theorem dX6_roofAt_12 : decode cX6_roofAt 12 = .ok (.iconst 1, 1) := dk_4 (dk_at dksX6_roofAt_0 12 rfl rfl)
theorem dX6_roofAt_13 : decode cX6_roofAt 13 = .ok (.iaload, 1) := dk_46 (dk_at dksX6_roofAt_0 13 rfl rfl)
theorem dX6_roofAt_14 : decode cX6_roofAt 14 = .ok (.if_icmp .ge 67, 3) := dk_162 0 67 (dk_at dksX6_roofAt_0 14 rfl rfl)
theorem dX6_roofAt_17 : decode cX6_roofAt 17 = .ok (.iconst 0, 1) := dk_3 (dk_at dksX6_roofAt_0 17 rfl rfl)
theorem dX6_roofAt_18 : decode cX6_roofAt 18 = .ok (.istore_n 3, 1) := dk_62 (dk_at dksX6_roofAt_0 18 rfl rfl)
theorem dX6_roofAt_19 : decode cX6_roofAt 19 = .ok (.iconst 0, 1) := dk_3 (dk_at dksX6_roofAt_0 19 rfl rfl)
theorem dX6_roofAt_20 : decode cX6_roofAt 20 = .ok (.istore 4, 2) := dk_54 4 (dk_at dksX6_roofAt_0 20 rfl rfl)
theorem dX6_roofAt_22 : decode cX6_roofAt 22 = .ok (.iload 4, 2) := dk_21 4 (dk_at dksX6_roofAt_0 22 rfl rfl)
theorem dX6_roofAt_24 : decode cX6_roofAt 24 = .ok (.aload_n 0, 1) := dk_42 (dk_at dksX6_roofAt_1 0 rfl rfl)
theorem dX6_roofAt_25 : decode cX6_roofAt 25 = .ok (.getfield 7, 3) := dk_180 0 7 (dk_at dksX6_roofAt_1 1 rfl rfl)
theorem dX6_roofAt_28 : decode cX6_roofAt 28 = .ok (.iconst 1, 1) := dk_4 (dk_at dksX6_roofAt_1 4 rfl rfl)
theorem dX6_roofAt_29 : decode cX6_roofAt 29 = .ok (.iaload, 1) := dk_46 (dk_at dksX6_roofAt_1 5 rfl rfl)
theorem dX6_roofAt_30 : decode cX6_roofAt 30 = .ok (.if_icmp .ge 33, 3) := dk_162 0 33 (dk_at dksX6_roofAt_1 6 rfl rfl)
theorem dX6_roofAt_33 : decode cX6_roofAt 33 = .ok (.iload_n 3, 1) := dk_29 (dk_at dksX6_roofAt_1 9 rfl rfl)
theorem dX6_roofAt_34 : decode cX6_roofAt 34 = .ok (.aload_n 0, 1) := dk_42 (dk_at dksX6_roofAt_1 10 rfl rfl)
theorem dX6_roofAt_35 : decode cX6_roofAt 35 = .ok (.iload 4, 2) := dk_21 4 (dk_at dksX6_roofAt_1 11 rfl rfl)
theorem dX6_roofAt_37 : decode cX6_roofAt 37 = .ok (.iconst 0, 1) := dk_3 (dk_at dksX6_roofAt_1 13 rfl rfl)
theorem dX6_roofAt_38 : decode cX6_roofAt 38 = .ok (.invokevirtual 104, 3) := dk_182 0 104 (dk_at dksX6_roofAt_1 14 rfl rfl)
theorem dX6_roofAt_41 : decode cX6_roofAt 41 = .ok (.aload_n 0, 1) := dk_42 (dk_at dksX6_roofAt_1 17 rfl rfl)
theorem dX6_roofAt_42 : decode cX6_roofAt 42 = .ok (.iload_n 2, 1) := dk_28 (dk_at dksX6_roofAt_1 18 rfl rfl)
theorem dX6_roofAt_43 : decode cX6_roofAt 43 = .ok (.iconst 0, 1) := dk_3 (dk_at dksX6_roofAt_1 19 rfl rfl)
theorem dX6_roofAt_44 : decode cX6_roofAt 44 = .ok (.invokevirtual 104, 3) := dk_182 0 104 (dk_at dksX6_roofAt_1 20 rfl rfl)
theorem dX6_roofAt_47 : decode cX6_roofAt 47 = .ok (.if_icmp .ge 7, 3) := dk_162 0 7 (dk_at dksX6_roofAt_2 0 rfl rfl)
theorem dX6_roofAt_50 : decode cX6_roofAt 50 = .ok (.iconst 1, 1) := dk_4 (dk_at dksX6_roofAt_2 3 rfl rfl)
theorem dX6_roofAt_51 : decode cX6_roofAt 51 = .ok (.goto 4, 3) := dk_167 0 4 (dk_at dksX6_roofAt_2 4 rfl rfl)
theorem dX6_roofAt_54 : decode cX6_roofAt 54 = .ok (.iconst 0, 1) := dk_3 (dk_at dksX6_roofAt_2 7 rfl rfl)
theorem dX6_roofAt_55 : decode cX6_roofAt 55 = .ok (.iadd, 1) := dk_96 (dk_at dksX6_roofAt_2 8 rfl rfl)
theorem dX6_roofAt_56 : decode cX6_roofAt 56 = .ok (.istore_n 3, 1) := dk_62 (dk_at dksX6_roofAt_2 9 rfl rfl)
theorem dX6_roofAt_57 : decode cX6_roofAt 57 = .ok (.iinc 4 1, 3) := dk_132 4 1 (dk_at dksX6_roofAt_2 10 rfl rfl)
theorem dX6_roofAt_60 : decode cX6_roofAt 60 = .ok (.goto (-38), 3) := dk_167 255 218 (dk_at dksX6_roofAt_2 13 rfl rfl)
theorem dX6_roofAt_63 : decode cX6_roofAt 63 = .ok (.iload_n 3, 1) := dk_29 (dk_at dksX6_roofAt_2 16 rfl rfl)
theorem dX6_roofAt_64 : decode cX6_roofAt 64 = .ok (.iload_n 1, 1) := dk_27 (dk_at dksX6_roofAt_2 17 rfl rfl)
theorem dX6_roofAt_65 : decode cX6_roofAt 65 = .ok (.if_icmp .ne 10, 3) := dk_160 0 10 (dk_at dksX6_roofAt_2 18 rfl rfl)
theorem dX6_roofAt_68 : decode cX6_roofAt 68 = .ok (.aload_n 0, 1) := dk_42 (dk_at dksX6_roofAt_2 21 rfl rfl)
theorem dX6_roofAt_69 : decode cX6_roofAt 69 = .ok (.iload_n 2, 1) := dk_28 (dk_at dksX6_roofAt_2 22 rfl rfl)
theorem dX6_roofAt_70 : decode cX6_roofAt 70 = .ok (.iconst 0, 1) := dk_3 (dk_at dksX6_roofAt_2 23 rfl rfl)
theorem dX6_roofAt_71 : decode cX6_roofAt 71 = .ok (.invokevirtual 104, 3) := dk_182 0 104 (dk_at dksX6_roofAt_3 0 rfl rfl)
theorem dX6_roofAt_74 : decode cX6_roofAt 74 = .ok (.ireturn, 1) := dk_172 (dk_at dksX6_roofAt_3 3 rfl rfl)
theorem dX6_roofAt_75 : decode cX6_roofAt 75 = .ok (.iinc 2 1, 3) := dk_132 2 1 (dk_at dksX6_roofAt_3 4 rfl rfl)
theorem dX6_roofAt_78 : decode cX6_roofAt 78 = .ok (.goto (-71), 3) := dk_167 255 185 (dk_at dksX6_roofAt_3 7 rfl rfl)
theorem dX6_roofAt_81 : decode cX6_roofAt 81 = .ok (.aload_n 0, 1) := dk_42 (dk_at dksX6_roofAt_3 10 rfl rfl)
theorem dX6_roofAt_82 : decode cX6_roofAt 82 = .ok (.iconst 1, 1) := dk_4 (dk_at dksX6_roofAt_3 11 rfl rfl)
theorem dX6_roofAt_83 : decode cX6_roofAt 83 = .ok (.invokevirtual 75, 3) := dk_182 0 75 (dk_at dksX6_roofAt_3 12 rfl rfl)
theorem dX6_roofAt_86 : decode cX6_roofAt 86 = .ok (.ireturn, 1) := dk_172 (dk_at dksX6_roofAt_3 15 rfl rfl)
abbrev kX6_roofAt : KX := (cX6_roofAt, "TissueBalloonsModel", "roofAt", 5, some .int, [], 1)
abbrev cX6_nearest : ByteArray := prog_14_method_32_code
def yX6_nearest : MethodName := ⟨RX6, "nearest", "(I)I"⟩
def dkwX6_nearest_2 : List UInt8 := [155, 0, 7, 27, 28, 96, 172, 132, 2, 1, 167, 255, 219, 42, 5, 182, 0, 75, 172]
abbrev dktX6_nearest_2 : List UInt8 := dkwX6_nearest_2 ++ []
def dkwX6_nearest_1 : List UInt8 := [163, 0, 37, 42, 27, 28, 100, 182, 0, 110, 155, 0, 7, 27, 28, 100, 172, 42, 27, 28, 96, 182, 0, 110]
abbrev dktX6_nearest_1 : List UInt8 := dkwX6_nearest_1 ++ dktX6_nearest_2
def dkwX6_nearest_0 : List UInt8 := [42, 3, 181, 0, 25, 27, 184, 0, 107, 154, 0, 9, 42, 4, 182, 0, 75, 172, 3, 61, 28, 16, 60]
abbrev dktX6_nearest_0 : List UInt8 := dkwX6_nearest_0 ++ dktX6_nearest_1
theorem dksX6_nearest_0 : cX6_nearest.data.toList.drop 0 = dktX6_nearest_0 := by decide +kernel
theorem dksX6_nearest_1 : cX6_nearest.data.toList.drop 23 = dktX6_nearest_1 := dk_seg dksX6_nearest_0 23 rfl rfl
theorem dksX6_nearest_2 : cX6_nearest.data.toList.drop 47 = dktX6_nearest_2 := dk_seg dksX6_nearest_1 24 rfl rfl
theorem dX6_nearest_0 : decode cX6_nearest 0 = .ok (.aload_n 0, 1) := dk_42 (dk_at dksX6_nearest_0 0 rfl rfl)
theorem dX6_nearest_1 : decode cX6_nearest 1 = .ok (.iconst 0, 1) := dk_3 (dk_at dksX6_nearest_0 1 rfl rfl)
theorem dX6_nearest_2 : decode cX6_nearest 2 = .ok (.putfield 25, 3) := dk_181 0 25 (dk_at dksX6_nearest_0 2 rfl rfl)
theorem dX6_nearest_5 : decode cX6_nearest 5 = .ok (.iload_n 1, 1) := dk_27 (dk_at dksX6_nearest_0 5 rfl rfl)
theorem dX6_nearest_6 : decode cX6_nearest 6 = .ok (.invokestatic 107, 3) := dk_184 0 107 (dk_at dksX6_nearest_0 6 rfl rfl)
theorem dX6_nearest_9 : decode cX6_nearest 9 = .ok (.ifCond .ne 9, 3) := dk_154 0 9 (dk_at dksX6_nearest_0 9 rfl rfl)
theorem dX6_nearest_12 : decode cX6_nearest 12 = .ok (.aload_n 0, 1) := dk_42 (dk_at dksX6_nearest_0 12 rfl rfl)
theorem dX6_nearest_13 : decode cX6_nearest 13 = .ok (.iconst 1, 1) := dk_4 (dk_at dksX6_nearest_0 13 rfl rfl)
theorem dX6_nearest_14 : decode cX6_nearest 14 = .ok (.invokevirtual 75, 3) := dk_182 0 75 (dk_at dksX6_nearest_0 14 rfl rfl)
theorem dX6_nearest_17 : decode cX6_nearest 17 = .ok (.ireturn, 1) := dk_172 (dk_at dksX6_nearest_0 17 rfl rfl)
theorem dX6_nearest_18 : decode cX6_nearest 18 = .ok (.iconst 0, 1) := dk_3 (dk_at dksX6_nearest_0 18 rfl rfl)
theorem dX6_nearest_19 : decode cX6_nearest 19 = .ok (.istore_n 2, 1) := dk_61 (dk_at dksX6_nearest_0 19 rfl rfl)
theorem dX6_nearest_20 : decode cX6_nearest 20 = .ok (.iload_n 2, 1) := dk_28 (dk_at dksX6_nearest_0 20 rfl rfl)
theorem dX6_nearest_21 : decode cX6_nearest 21 = .ok (.bipush 60, 2) := dk_16 60 (dk_at dksX6_nearest_0 21 rfl rfl)
theorem dX6_nearest_23 : decode cX6_nearest 23 = .ok (.if_icmp .gt 37, 3) := dk_163 0 37 (dk_at dksX6_nearest_1 0 rfl rfl)
theorem dX6_nearest_26 : decode cX6_nearest 26 = .ok (.aload_n 0, 1) := dk_42 (dk_at dksX6_nearest_1 3 rfl rfl)
theorem dX6_nearest_27 : decode cX6_nearest 27 = .ok (.iload_n 1, 1) := dk_27 (dk_at dksX6_nearest_1 4 rfl rfl)
theorem dX6_nearest_28 : decode cX6_nearest 28 = .ok (.iload_n 2, 1) := dk_28 (dk_at dksX6_nearest_1 5 rfl rfl)
theorem dX6_nearest_29 : decode cX6_nearest 29 = .ok (.isub, 1) := dk_100 (dk_at dksX6_nearest_1 6 rfl rfl)
theorem dX6_nearest_30 : decode cX6_nearest 30 = .ok (.invokevirtual 110, 3) := dk_182 0 110 (dk_at dksX6_nearest_1 7 rfl rfl)
theorem dX6_nearest_33 : decode cX6_nearest 33 = .ok (.ifCond .lt 7, 3) := dk_155 0 7 (dk_at dksX6_nearest_1 10 rfl rfl)
theorem dX6_nearest_36 : decode cX6_nearest 36 = .ok (.iload_n 1, 1) := dk_27 (dk_at dksX6_nearest_1 13 rfl rfl)
theorem dX6_nearest_37 : decode cX6_nearest 37 = .ok (.iload_n 2, 1) := dk_28 (dk_at dksX6_nearest_1 14 rfl rfl)
theorem dX6_nearest_38 : decode cX6_nearest 38 = .ok (.isub, 1) := dk_100 (dk_at dksX6_nearest_1 15 rfl rfl)
theorem dX6_nearest_39 : decode cX6_nearest 39 = .ok (.ireturn, 1) := dk_172 (dk_at dksX6_nearest_1 16 rfl rfl)
theorem dX6_nearest_40 : decode cX6_nearest 40 = .ok (.aload_n 0, 1) := dk_42 (dk_at dksX6_nearest_1 17 rfl rfl)
theorem dX6_nearest_41 : decode cX6_nearest 41 = .ok (.iload_n 1, 1) := dk_27 (dk_at dksX6_nearest_1 18 rfl rfl)
theorem dX6_nearest_42 : decode cX6_nearest 42 = .ok (.iload_n 2, 1) := dk_28 (dk_at dksX6_nearest_1 19 rfl rfl)
theorem dX6_nearest_43 : decode cX6_nearest 43 = .ok (.iadd, 1) := dk_96 (dk_at dksX6_nearest_1 20 rfl rfl)
theorem dX6_nearest_44 : decode cX6_nearest 44 = .ok (.invokevirtual 110, 3) := dk_182 0 110 (dk_at dksX6_nearest_1 21 rfl rfl)
theorem dX6_nearest_47 : decode cX6_nearest 47 = .ok (.ifCond .lt 7, 3) := dk_155 0 7 (dk_at dksX6_nearest_2 0 rfl rfl)
theorem dX6_nearest_50 : decode cX6_nearest 50 = .ok (.iload_n 1, 1) := dk_27 (dk_at dksX6_nearest_2 3 rfl rfl)
theorem dX6_nearest_51 : decode cX6_nearest 51 = .ok (.iload_n 2, 1) := dk_28 (dk_at dksX6_nearest_2 4 rfl rfl)
theorem dX6_nearest_52 : decode cX6_nearest 52 = .ok (.iadd, 1) := dk_96 (dk_at dksX6_nearest_2 5 rfl rfl)
theorem dX6_nearest_53 : decode cX6_nearest 53 = .ok (.ireturn, 1) := dk_172 (dk_at dksX6_nearest_2 6 rfl rfl)
theorem dX6_nearest_54 : decode cX6_nearest 54 = .ok (.iinc 2 1, 3) := dk_132 2 1 (dk_at dksX6_nearest_2 7 rfl rfl)
theorem dX6_nearest_57 : decode cX6_nearest 57 = .ok (.goto (-37), 3) := dk_167 255 219 (dk_at dksX6_nearest_2 10 rfl rfl)
theorem dX6_nearest_60 : decode cX6_nearest 60 = .ok (.aload_n 0, 1) := dk_42 (dk_at dksX6_nearest_2 13 rfl rfl)
theorem dX6_nearest_61 : decode cX6_nearest 61 = .ok (.iconst 2, 1) := dk_5 (dk_at dksX6_nearest_2 14 rfl rfl)
theorem dX6_nearest_62 : decode cX6_nearest 62 = .ok (.invokevirtual 75, 3) := dk_182 0 75 (dk_at dksX6_nearest_2 15 rfl rfl)
theorem dX6_nearest_65 : decode cX6_nearest 65 = .ok (.ireturn, 1) := dk_172 (dk_at dksX6_nearest_2 18 rfl rfl)
abbrev kX6_nearest : KX := (cX6_nearest, "TissueBalloonsModel", "nearest", 3, some .int, [], 2)
abbrev cX6_watch : ByteArray := prog_14_method_35_code
def yX6_watch : MethodName := ⟨RX6, "watch", "(IZ)I"⟩
def dkwX6_watch_1 : List UInt8 := [29, 28, 182, 0, 127, 182, 0, 101, 172]
abbrev dktX6_watch_1 : List UInt8 := dkwX6_watch_1 ++ []
def dkwX6_watch_0 : List UInt8 := [42, 182, 0, 87, 42, 27, 182, 0, 110, 62, 29, 156, 0, 11, 42, 4, 182, 0, 75, 167, 0, 13, 42, 42]
abbrev dktX6_watch_0 : List UInt8 := dkwX6_watch_0 ++ dktX6_watch_1
theorem dksX6_watch_0 : cX6_watch.data.toList.drop 0 = dktX6_watch_0 := by decide +kernel
theorem dksX6_watch_1 : cX6_watch.data.toList.drop 24 = dktX6_watch_1 := dk_seg dksX6_watch_0 24 rfl rfl
theorem dX6_watch_0 : decode cX6_watch 0 = .ok (.aload_n 0, 1) := dk_42 (dk_at dksX6_watch_0 0 rfl rfl)
theorem dX6_watch_1 : decode cX6_watch 1 = .ok (.invokevirtual 87, 3) := dk_182 0 87 (dk_at dksX6_watch_0 1 rfl rfl)
theorem dX6_watch_4 : decode cX6_watch 4 = .ok (.aload_n 0, 1) := dk_42 (dk_at dksX6_watch_0 4 rfl rfl)
theorem dX6_watch_5 : decode cX6_watch 5 = .ok (.iload_n 1, 1) := dk_27 (dk_at dksX6_watch_0 5 rfl rfl)
theorem dX6_watch_6 : decode cX6_watch 6 = .ok (.invokevirtual 110, 3) := dk_182 0 110 (dk_at dksX6_watch_0 6 rfl rfl)
theorem dX6_watch_9 : decode cX6_watch 9 = .ok (.istore_n 3, 1) := dk_62 (dk_at dksX6_watch_0 9 rfl rfl)
theorem dX6_watch_10 : decode cX6_watch 10 = .ok (.iload_n 3, 1) := dk_29 (dk_at dksX6_watch_0 10 rfl rfl)
theorem dX6_watch_11 : decode cX6_watch 11 = .ok (.ifCond .ge 11, 3) := dk_156 0 11 (dk_at dksX6_watch_0 11 rfl rfl)
theorem dX6_watch_14 : decode cX6_watch 14 = .ok (.aload_n 0, 1) := dk_42 (dk_at dksX6_watch_0 14 rfl rfl)
theorem dX6_watch_15 : decode cX6_watch 15 = .ok (.iconst 1, 1) := dk_4 (dk_at dksX6_watch_0 15 rfl rfl)
theorem dX6_watch_16 : decode cX6_watch 16 = .ok (.invokevirtual 75, 3) := dk_182 0 75 (dk_at dksX6_watch_0 16 rfl rfl)
theorem dX6_watch_19 : decode cX6_watch 19 = .ok (.goto 13, 3) := dk_167 0 13 (dk_at dksX6_watch_0 19 rfl rfl)
theorem dX6_watch_22 : decode cX6_watch 22 = .ok (.aload_n 0, 1) := dk_42 (dk_at dksX6_watch_0 22 rfl rfl)
theorem dX6_watch_23 : decode cX6_watch 23 = .ok (.aload_n 0, 1) := dk_42 (dk_at dksX6_watch_0 23 rfl rfl)
theorem dX6_watch_24 : decode cX6_watch 24 = .ok (.iload_n 3, 1) := dk_29 (dk_at dksX6_watch_1 0 rfl rfl)
theorem dX6_watch_25 : decode cX6_watch 25 = .ok (.iload_n 2, 1) := dk_28 (dk_at dksX6_watch_1 1 rfl rfl)
theorem dX6_watch_26 : decode cX6_watch 26 = .ok (.invokevirtual 127, 3) := dk_182 0 127 (dk_at dksX6_watch_1 2 rfl rfl)
theorem dX6_watch_29 : decode cX6_watch 29 = .ok (.invokevirtual 101, 3) := dk_182 0 101 (dk_at dksX6_watch_1 5 rfl rfl)
theorem dX6_watch_32 : decode cX6_watch 32 = .ok (.ireturn, 1) := dk_172 (dk_at dksX6_watch_1 8 rfl rfl)
abbrev kX6_watch : KX := (cX6_watch, "TissueBalloonsModel", "watch", 4, some .int, [], 3)
abbrev cX6_watches : ByteArray := prog_14_method_34_code
def yX6_watches : MethodName := ⟨RX6, "watches", "(IZ)I"⟩
def dkwX6_watches_0 : List UInt8 := [42, 27, 5, 28, 153, 0, 7, 4, 167, 0, 4, 3, 182, 0, 120, 42, 5, 182, 0, 124, 172]
abbrev dktX6_watches_0 : List UInt8 := dkwX6_watches_0 ++ []
theorem dksX6_watches_0 : cX6_watches.data.toList.drop 0 = dktX6_watches_0 := by decide +kernel
theorem dX6_watches_0 : decode cX6_watches 0 = .ok (.aload_n 0, 1) := dk_42 (dk_at dksX6_watches_0 0 rfl rfl)
theorem dX6_watches_1 : decode cX6_watches 1 = .ok (.iload_n 1, 1) := dk_27 (dk_at dksX6_watches_0 1 rfl rfl)
theorem dX6_watches_2 : decode cX6_watches 2 = .ok (.iconst 2, 1) := dk_5 (dk_at dksX6_watches_0 2 rfl rfl)
theorem dX6_watches_3 : decode cX6_watches 3 = .ok (.iload_n 2, 1) := dk_28 (dk_at dksX6_watches_0 3 rfl rfl)
theorem dX6_watches_4 : decode cX6_watches 4 = .ok (.ifCond .eq 7, 3) := dk_153 0 7 (dk_at dksX6_watches_0 4 rfl rfl)
theorem dX6_watches_7 : decode cX6_watches 7 = .ok (.iconst 1, 1) := dk_4 (dk_at dksX6_watches_0 7 rfl rfl)
theorem dX6_watches_8 : decode cX6_watches 8 = .ok (.goto 4, 3) := dk_167 0 4 (dk_at dksX6_watches_0 8 rfl rfl)
theorem dX6_watches_11 : decode cX6_watches 11 = .ok (.iconst 0, 1) := dk_3 (dk_at dksX6_watches_0 11 rfl rfl)
theorem dX6_watches_12 : decode cX6_watches 12 = .ok (.invokevirtual 120, 3) := dk_182 0 120 (dk_at dksX6_watches_0 12 rfl rfl)
theorem dX6_watches_15 : decode cX6_watches 15 = .ok (.aload_n 0, 1) := dk_42 (dk_at dksX6_watches_0 15 rfl rfl)
theorem dX6_watches_16 : decode cX6_watches 16 = .ok (.iconst 2, 1) := dk_5 (dk_at dksX6_watches_0 16 rfl rfl)
theorem dX6_watches_17 : decode cX6_watches 17 = .ok (.invokevirtual 124, 3) := dk_182 0 124 (dk_at dksX6_watches_0 17 rfl rfl)
theorem dX6_watches_20 : decode cX6_watches 20 = .ok (.ireturn, 1) := dk_172 (dk_at dksX6_watches_0 20 rfl rfl)
abbrev kX6_watches : KX := (cX6_watches, "TissueBalloonsModel", "watches", 3, some .int, [], 2)
abbrev cX6_roofsWith : ByteArray := prog_14_method_33_code
def yX6_roofsWith : MethodName := ⟨RX6, "roofsWith", "(I)I"⟩
def dkwX6_roofsWith_1 : List UInt8 := [132, 3, 1, 167, 255, 234, 28, 172]
abbrev dktX6_roofsWith_1 : List UInt8 := dkwX6_roofsWith_1 ++ []
def dkwX6_roofsWith_0 : List UInt8 := [3, 61, 3, 62, 29, 42, 180, 0, 7, 4, 46, 162, 0, 18, 28, 42, 29, 27, 182, 0, 104, 96, 61]
abbrev dktX6_roofsWith_0 : List UInt8 := dkwX6_roofsWith_0 ++ dktX6_roofsWith_1
theorem dksX6_roofsWith_0 : cX6_roofsWith.data.toList.drop 0 = dktX6_roofsWith_0 := by decide +kernel
theorem dksX6_roofsWith_1 : cX6_roofsWith.data.toList.drop 23 = dktX6_roofsWith_1 := dk_seg dksX6_roofsWith_0 23 rfl rfl
theorem dX6_roofsWith_0 : decode cX6_roofsWith 0 = .ok (.iconst 0, 1) := dk_3 (dk_at dksX6_roofsWith_0 0 rfl rfl)
theorem dX6_roofsWith_1 : decode cX6_roofsWith 1 = .ok (.istore_n 2, 1) := dk_61 (dk_at dksX6_roofsWith_0 1 rfl rfl)
theorem dX6_roofsWith_2 : decode cX6_roofsWith 2 = .ok (.iconst 0, 1) := dk_3 (dk_at dksX6_roofsWith_0 2 rfl rfl)
theorem dX6_roofsWith_3 : decode cX6_roofsWith 3 = .ok (.istore_n 3, 1) := dk_62 (dk_at dksX6_roofsWith_0 3 rfl rfl)
theorem dX6_roofsWith_4 : decode cX6_roofsWith 4 = .ok (.iload_n 3, 1) := dk_29 (dk_at dksX6_roofsWith_0 4 rfl rfl)
theorem dX6_roofsWith_5 : decode cX6_roofsWith 5 = .ok (.aload_n 0, 1) := dk_42 (dk_at dksX6_roofsWith_0 5 rfl rfl)
theorem dX6_roofsWith_6 : decode cX6_roofsWith 6 = .ok (.getfield 7, 3) := dk_180 0 7 (dk_at dksX6_roofsWith_0 6 rfl rfl)
theorem dX6_roofsWith_9 : decode cX6_roofsWith 9 = .ok (.iconst 1, 1) := dk_4 (dk_at dksX6_roofsWith_0 9 rfl rfl)
theorem dX6_roofsWith_10 : decode cX6_roofsWith 10 = .ok (.iaload, 1) := dk_46 (dk_at dksX6_roofsWith_0 10 rfl rfl)
theorem dX6_roofsWith_11 : decode cX6_roofsWith 11 = .ok (.if_icmp .ge 18, 3) := dk_162 0 18 (dk_at dksX6_roofsWith_0 11 rfl rfl)
theorem dX6_roofsWith_14 : decode cX6_roofsWith 14 = .ok (.iload_n 2, 1) := dk_28 (dk_at dksX6_roofsWith_0 14 rfl rfl)
theorem dX6_roofsWith_15 : decode cX6_roofsWith 15 = .ok (.aload_n 0, 1) := dk_42 (dk_at dksX6_roofsWith_0 15 rfl rfl)
theorem dX6_roofsWith_16 : decode cX6_roofsWith 16 = .ok (.iload_n 3, 1) := dk_29 (dk_at dksX6_roofsWith_0 16 rfl rfl)
theorem dX6_roofsWith_17 : decode cX6_roofsWith 17 = .ok (.iload_n 1, 1) := dk_27 (dk_at dksX6_roofsWith_0 17 rfl rfl)
theorem dX6_roofsWith_18 : decode cX6_roofsWith 18 = .ok (.invokevirtual 104, 3) := dk_182 0 104 (dk_at dksX6_roofsWith_0 18 rfl rfl)
theorem dX6_roofsWith_21 : decode cX6_roofsWith 21 = .ok (.iadd, 1) := dk_96 (dk_at dksX6_roofsWith_0 21 rfl rfl)
theorem dX6_roofsWith_22 : decode cX6_roofsWith 22 = .ok (.istore_n 2, 1) := dk_61 (dk_at dksX6_roofsWith_0 22 rfl rfl)
theorem dX6_roofsWith_23 : decode cX6_roofsWith 23 = .ok (.iinc 3 1, 3) := dk_132 3 1 (dk_at dksX6_roofsWith_1 0 rfl rfl)
theorem dX6_roofsWith_26 : decode cX6_roofsWith 26 = .ok (.goto (-22), 3) := dk_167 255 234 (dk_at dksX6_roofsWith_1 3 rfl rfl)
theorem dX6_roofsWith_29 : decode cX6_roofsWith 29 = .ok (.iload_n 2, 1) := dk_28 (dk_at dksX6_roofsWith_1 6 rfl rfl)
theorem dX6_roofsWith_30 : decode cX6_roofsWith 30 = .ok (.ireturn, 1) := dk_172 (dk_at dksX6_roofsWith_1 7 rfl rfl)
abbrev kX6_roofsWith : KX := (cX6_roofsWith, "TissueBalloonsModel", "roofsWith", 4, some .int, [], 1)
abbrev cX6_wet : ByteArray := prog_14_method_38_code
def yX6_wet : MethodName := ⟨RX6, "wet", "(II)I"⟩
def dkwX6_wet_2 : List UInt8 := [182, 0, 117, 167, 0, 13, 42, 42, 29, 28, 182, 0, 137, 182, 0, 101, 172]
abbrev dktX6_wet_2 : List UInt8 := dkwX6_wet_2 ++ []
def dkwX6_wet_1 : List UInt8 := [184, 0, 83, 154, 0, 9, 42, 5, 182, 0, 75, 172, 42, 29, 182, 0, 134, 153, 0, 11, 42, 6]
abbrev dktX6_wet_1 : List UInt8 := dkwX6_wet_1 ++ dktX6_wet_2
def dkwX6_wet_0 : List UInt8 := [42, 182, 0, 87, 42, 27, 182, 0, 110, 62, 29, 156, 0, 9, 42, 4, 182, 0, 75, 172, 28, 4, 16, 9]
abbrev dktX6_wet_0 : List UInt8 := dkwX6_wet_0 ++ dktX6_wet_1
theorem dksX6_wet_0 : cX6_wet.data.toList.drop 0 = dktX6_wet_0 := by decide +kernel
theorem dksX6_wet_1 : cX6_wet.data.toList.drop 24 = dktX6_wet_1 := dk_seg dksX6_wet_0 24 rfl rfl
theorem dksX6_wet_2 : cX6_wet.data.toList.drop 46 = dktX6_wet_2 := dk_seg dksX6_wet_1 22 rfl rfl
theorem dX6_wet_0 : decode cX6_wet 0 = .ok (.aload_n 0, 1) := dk_42 (dk_at dksX6_wet_0 0 rfl rfl)
theorem dX6_wet_1 : decode cX6_wet 1 = .ok (.invokevirtual 87, 3) := dk_182 0 87 (dk_at dksX6_wet_0 1 rfl rfl)
theorem dX6_wet_4 : decode cX6_wet 4 = .ok (.aload_n 0, 1) := dk_42 (dk_at dksX6_wet_0 4 rfl rfl)
theorem dX6_wet_5 : decode cX6_wet 5 = .ok (.iload_n 1, 1) := dk_27 (dk_at dksX6_wet_0 5 rfl rfl)
theorem dX6_wet_6 : decode cX6_wet 6 = .ok (.invokevirtual 110, 3) := dk_182 0 110 (dk_at dksX6_wet_0 6 rfl rfl)
theorem dX6_wet_9 : decode cX6_wet 9 = .ok (.istore_n 3, 1) := dk_62 (dk_at dksX6_wet_0 9 rfl rfl)
theorem dX6_wet_10 : decode cX6_wet 10 = .ok (.iload_n 3, 1) := dk_29 (dk_at dksX6_wet_0 10 rfl rfl)
theorem dX6_wet_11 : decode cX6_wet 11 = .ok (.ifCond .ge 9, 3) := dk_156 0 9 (dk_at dksX6_wet_0 11 rfl rfl)
theorem dX6_wet_14 : decode cX6_wet 14 = .ok (.aload_n 0, 1) := dk_42 (dk_at dksX6_wet_0 14 rfl rfl)
theorem dX6_wet_15 : decode cX6_wet 15 = .ok (.iconst 1, 1) := dk_4 (dk_at dksX6_wet_0 15 rfl rfl)
theorem dX6_wet_16 : decode cX6_wet 16 = .ok (.invokevirtual 75, 3) := dk_182 0 75 (dk_at dksX6_wet_0 16 rfl rfl)
theorem dX6_wet_19 : decode cX6_wet 19 = .ok (.ireturn, 1) := dk_172 (dk_at dksX6_wet_0 19 rfl rfl)
theorem dX6_wet_20 : decode cX6_wet 20 = .ok (.iload_n 2, 1) := dk_28 (dk_at dksX6_wet_0 20 rfl rfl)
theorem dX6_wet_21 : decode cX6_wet 21 = .ok (.iconst 1, 1) := dk_4 (dk_at dksX6_wet_0 21 rfl rfl)
theorem dX6_wet_22 : decode cX6_wet 22 = .ok (.bipush 9, 2) := dk_16 9 (dk_at dksX6_wet_0 22 rfl rfl)
theorem dX6_wet_24 : decode cX6_wet 24 = .ok (.invokestatic 83, 3) := dk_184 0 83 (dk_at dksX6_wet_1 0 rfl rfl)
theorem dX6_wet_27 : decode cX6_wet 27 = .ok (.ifCond .ne 9, 3) := dk_154 0 9 (dk_at dksX6_wet_1 3 rfl rfl)
theorem dX6_wet_30 : decode cX6_wet 30 = .ok (.aload_n 0, 1) := dk_42 (dk_at dksX6_wet_1 6 rfl rfl)
theorem dX6_wet_31 : decode cX6_wet 31 = .ok (.iconst 2, 1) := dk_5 (dk_at dksX6_wet_1 7 rfl rfl)
theorem dX6_wet_32 : decode cX6_wet 32 = .ok (.invokevirtual 75, 3) := dk_182 0 75 (dk_at dksX6_wet_1 8 rfl rfl)
theorem dX6_wet_35 : decode cX6_wet 35 = .ok (.ireturn, 1) := dk_172 (dk_at dksX6_wet_1 11 rfl rfl)
theorem dX6_wet_36 : decode cX6_wet 36 = .ok (.aload_n 0, 1) := dk_42 (dk_at dksX6_wet_1 12 rfl rfl)
theorem dX6_wet_37 : decode cX6_wet 37 = .ok (.iload_n 3, 1) := dk_29 (dk_at dksX6_wet_1 13 rfl rfl)
theorem dX6_wet_38 : decode cX6_wet 38 = .ok (.invokevirtual 134, 3) := dk_182 0 134 (dk_at dksX6_wet_1 14 rfl rfl)
theorem dX6_wet_41 : decode cX6_wet 41 = .ok (.ifCond .eq 11, 3) := dk_153 0 11 (dk_at dksX6_wet_1 17 rfl rfl)
theorem dX6_wet_44 : decode cX6_wet 44 = .ok (.aload_n 0, 1) := dk_42 (dk_at dksX6_wet_1 20 rfl rfl)
theorem dX6_wet_45 : decode cX6_wet 45 = .ok (.iconst 3, 1) := dk_6 (dk_at dksX6_wet_1 21 rfl rfl)
theorem dX6_wet_46 : decode cX6_wet 46 = .ok (.invokevirtual 117, 3) := dk_182 0 117 (dk_at dksX6_wet_2 0 rfl rfl)
theorem dX6_wet_49 : decode cX6_wet 49 = .ok (.goto 13, 3) := dk_167 0 13 (dk_at dksX6_wet_2 3 rfl rfl)
theorem dX6_wet_52 : decode cX6_wet 52 = .ok (.aload_n 0, 1) := dk_42 (dk_at dksX6_wet_2 6 rfl rfl)
theorem dX6_wet_53 : decode cX6_wet 53 = .ok (.aload_n 0, 1) := dk_42 (dk_at dksX6_wet_2 7 rfl rfl)
theorem dX6_wet_54 : decode cX6_wet 54 = .ok (.iload_n 3, 1) := dk_29 (dk_at dksX6_wet_2 8 rfl rfl)
theorem dX6_wet_55 : decode cX6_wet 55 = .ok (.iload_n 2, 1) := dk_28 (dk_at dksX6_wet_2 9 rfl rfl)
theorem dX6_wet_56 : decode cX6_wet 56 = .ok (.invokevirtual 137, 3) := dk_182 0 137 (dk_at dksX6_wet_2 10 rfl rfl)
theorem dX6_wet_59 : decode cX6_wet 59 = .ok (.invokevirtual 101, 3) := dk_182 0 101 (dk_at dksX6_wet_2 13 rfl rfl)
theorem dX6_wet_62 : decode cX6_wet 62 = .ok (.ireturn, 1) := dk_172 (dk_at dksX6_wet_2 16 rfl rfl)
abbrev kX6_wet : KX := (cX6_wet, "TissueBalloonsModel", "wet", 4, some .int, [], 2)
abbrev cX6_isRefusedWet : ByteArray := prog_14_method_36_code
def yX6_isRefusedWet : MethodName := ⟨RX6, "isRefusedWet", "(I)Z"⟩
def dkwX6_isRefusedWet_1 : List UInt8 := [153, 0, 7, 4, 167, 0, 4, 3, 172]
abbrev dktX6_isRefusedWet_1 : List UInt8 := dkwX6_isRefusedWet_1 ++ []
def dkwX6_isRefusedWet_0 : List UInt8 := [42, 27, 6, 182, 0, 104, 4, 160, 0, 22, 42, 16, 8, 42, 27, 3, 182, 0, 104, 182, 0, 113]
abbrev dktX6_isRefusedWet_0 : List UInt8 := dkwX6_isRefusedWet_0 ++ dktX6_isRefusedWet_1
theorem dksX6_isRefusedWet_0 : cX6_isRefusedWet.data.toList.drop 0 = dktX6_isRefusedWet_0 := by decide +kernel
theorem dksX6_isRefusedWet_1 : cX6_isRefusedWet.data.toList.drop 22 = dktX6_isRefusedWet_1 := dk_seg dksX6_isRefusedWet_0 22 rfl rfl
theorem dX6_isRefusedWet_0 : decode cX6_isRefusedWet 0 = .ok (.aload_n 0, 1) := dk_42 (dk_at dksX6_isRefusedWet_0 0 rfl rfl)
theorem dX6_isRefusedWet_1 : decode cX6_isRefusedWet 1 = .ok (.iload_n 1, 1) := dk_27 (dk_at dksX6_isRefusedWet_0 1 rfl rfl)
theorem dX6_isRefusedWet_2 : decode cX6_isRefusedWet 2 = .ok (.iconst 3, 1) := dk_6 (dk_at dksX6_isRefusedWet_0 2 rfl rfl)
theorem dX6_isRefusedWet_3 : decode cX6_isRefusedWet 3 = .ok (.invokevirtual 104, 3) := dk_182 0 104 (dk_at dksX6_isRefusedWet_0 3 rfl rfl)
theorem dX6_isRefusedWet_6 : decode cX6_isRefusedWet 6 = .ok (.iconst 1, 1) := dk_4 (dk_at dksX6_isRefusedWet_0 6 rfl rfl)
theorem dX6_isRefusedWet_7 : decode cX6_isRefusedWet 7 = .ok (.if_icmp .ne 22, 3) := dk_160 0 22 (dk_at dksX6_isRefusedWet_0 7 rfl rfl)
theorem dX6_isRefusedWet_10 : decode cX6_isRefusedWet 10 = .ok (.aload_n 0, 1) := dk_42 (dk_at dksX6_isRefusedWet_0 10 rfl rfl)
theorem dX6_isRefusedWet_11 : decode cX6_isRefusedWet 11 = .ok (.bipush 8, 2) := dk_16 8 (dk_at dksX6_isRefusedWet_0 11 rfl rfl)
theorem dX6_isRefusedWet_13 : decode cX6_isRefusedWet 13 = .ok (.aload_n 0, 1) := dk_42 (dk_at dksX6_isRefusedWet_0 13 rfl rfl)
theorem dX6_isRefusedWet_14 : decode cX6_isRefusedWet 14 = .ok (.iload_n 1, 1) := dk_27 (dk_at dksX6_isRefusedWet_0 14 rfl rfl)
theorem dX6_isRefusedWet_15 : decode cX6_isRefusedWet 15 = .ok (.iconst 0, 1) := dk_3 (dk_at dksX6_isRefusedWet_0 15 rfl rfl)
theorem dX6_isRefusedWet_16 : decode cX6_isRefusedWet 16 = .ok (.invokevirtual 104, 3) := dk_182 0 104 (dk_at dksX6_isRefusedWet_0 16 rfl rfl)
theorem dX6_isRefusedWet_19 : decode cX6_isRefusedWet 19 = .ok (.invokevirtual 113, 3) := dk_182 0 113 (dk_at dksX6_isRefusedWet_0 19 rfl rfl)
theorem dX6_isRefusedWet_22 : decode cX6_isRefusedWet 22 = .ok (.ifCond .eq 7, 3) := dk_153 0 7 (dk_at dksX6_isRefusedWet_1 0 rfl rfl)
theorem dX6_isRefusedWet_25 : decode cX6_isRefusedWet 25 = .ok (.iconst 1, 1) := dk_4 (dk_at dksX6_isRefusedWet_1 3 rfl rfl)
theorem dX6_isRefusedWet_26 : decode cX6_isRefusedWet 26 = .ok (.goto 4, 3) := dk_167 0 4 (dk_at dksX6_isRefusedWet_1 4 rfl rfl)
theorem dX6_isRefusedWet_29 : decode cX6_isRefusedWet 29 = .ok (.iconst 0, 1) := dk_3 (dk_at dksX6_isRefusedWet_1 7 rfl rfl)
theorem dX6_isRefusedWet_30 : decode cX6_isRefusedWet 30 = .ok (.ireturn, 1) := dk_172 (dk_at dksX6_isRefusedWet_1 8 rfl rfl)
abbrev kX6_isRefusedWet : KX := (cX6_isRefusedWet, "TissueBalloonsModel", "isRefusedWet", 2, some .boolean, [], 1)
abbrev cX6_wets : ByteArray := prog_14_method_37_code
def yX6_wets : MethodName := ⟨RX6, "wets", "(II)I"⟩
def dkwX6_wets_1 : List UInt8 := [182, 0, 104, 172]
abbrev dktX6_wets_1 : List UInt8 := dkwX6_wets_1 ++ []
def dkwX6_wets_0 : List UInt8 := [42, 27, 4, 16, 9, 42, 27, 4, 182, 0, 104, 28, 96, 184, 0, 131, 182, 0, 120, 42, 27, 4]
abbrev dktX6_wets_0 : List UInt8 := dkwX6_wets_0 ++ dktX6_wets_1
theorem dksX6_wets_0 : cX6_wets.data.toList.drop 0 = dktX6_wets_0 := by decide +kernel
theorem dksX6_wets_1 : cX6_wets.data.toList.drop 22 = dktX6_wets_1 := dk_seg dksX6_wets_0 22 rfl rfl
theorem dX6_wets_0 : decode cX6_wets 0 = .ok (.aload_n 0, 1) := dk_42 (dk_at dksX6_wets_0 0 rfl rfl)
theorem dX6_wets_1 : decode cX6_wets 1 = .ok (.iload_n 1, 1) := dk_27 (dk_at dksX6_wets_0 1 rfl rfl)
theorem dX6_wets_2 : decode cX6_wets 2 = .ok (.iconst 1, 1) := dk_4 (dk_at dksX6_wets_0 2 rfl rfl)
theorem dX6_wets_3 : decode cX6_wets 3 = .ok (.bipush 9, 2) := dk_16 9 (dk_at dksX6_wets_0 3 rfl rfl)
theorem dX6_wets_5 : decode cX6_wets 5 = .ok (.aload_n 0, 1) := dk_42 (dk_at dksX6_wets_0 5 rfl rfl)
theorem dX6_wets_6 : decode cX6_wets 6 = .ok (.iload_n 1, 1) := dk_27 (dk_at dksX6_wets_0 6 rfl rfl)
theorem dX6_wets_7 : decode cX6_wets 7 = .ok (.iconst 1, 1) := dk_4 (dk_at dksX6_wets_0 7 rfl rfl)
theorem dX6_wets_8 : decode cX6_wets 8 = .ok (.invokevirtual 104, 3) := dk_182 0 104 (dk_at dksX6_wets_0 8 rfl rfl)
theorem dX6_wets_11 : decode cX6_wets 11 = .ok (.iload_n 2, 1) := dk_28 (dk_at dksX6_wets_0 11 rfl rfl)
theorem dX6_wets_12 : decode cX6_wets 12 = .ok (.iadd, 1) := dk_96 (dk_at dksX6_wets_0 12 rfl rfl)
theorem dX6_wets_13 : decode cX6_wets 13 = .ok (.invokestatic 131, 3) := dk_184 0 131 (dk_at dksX6_wets_0 13 rfl rfl)
theorem dX6_wets_16 : decode cX6_wets 16 = .ok (.invokevirtual 120, 3) := dk_182 0 120 (dk_at dksX6_wets_0 16 rfl rfl)
theorem dX6_wets_19 : decode cX6_wets 19 = .ok (.aload_n 0, 1) := dk_42 (dk_at dksX6_wets_0 19 rfl rfl)
theorem dX6_wets_20 : decode cX6_wets 20 = .ok (.iload_n 1, 1) := dk_27 (dk_at dksX6_wets_0 20 rfl rfl)
theorem dX6_wets_21 : decode cX6_wets 21 = .ok (.iconst 1, 1) := dk_4 (dk_at dksX6_wets_0 21 rfl rfl)
theorem dX6_wets_22 : decode cX6_wets 22 = .ok (.invokevirtual 104, 3) := dk_182 0 104 (dk_at dksX6_wets_1 0 rfl rfl)
theorem dX6_wets_25 : decode cX6_wets 25 = .ok (.ireturn, 1) := dk_172 (dk_at dksX6_wets_1 3 rfl rfl)
abbrev kX6_wets : KX := (cX6_wets, "TissueBalloonsModel", "wets", 3, some .int, [], 1)
abbrev cX6_least : ByteArray := prog_14_method_4_code
def yX6_least : MethodName := ⟨RX6, "least", "(II)I"⟩
def dkwX6_least_0 : List UInt8 := [26, 27, 162, 0, 7, 26, 167, 0, 4, 27, 172]
abbrev dktX6_least_0 : List UInt8 := dkwX6_least_0 ++ []
theorem dksX6_least_0 : cX6_least.data.toList.drop 0 = dktX6_least_0 := by decide +kernel
theorem dX6_least_0 : decode cX6_least 0 = .ok (.iload_n 0, 1) := dk_26 (dk_at dksX6_least_0 0 rfl rfl)
theorem dX6_least_1 : decode cX6_least 1 = .ok (.iload_n 1, 1) := dk_27 (dk_at dksX6_least_0 1 rfl rfl)
theorem dX6_least_2 : decode cX6_least 2 = .ok (.if_icmp .ge 7, 3) := dk_162 0 7 (dk_at dksX6_least_0 2 rfl rfl)
theorem dX6_least_5 : decode cX6_least 5 = .ok (.iload_n 0, 1) := dk_26 (dk_at dksX6_least_0 5 rfl rfl)
theorem dX6_least_6 : decode cX6_least 6 = .ok (.goto 4, 3) := dk_167 0 4 (dk_at dksX6_least_0 6 rfl rfl)
theorem dX6_least_9 : decode cX6_least 9 = .ok (.iload_n 1, 1) := dk_27 (dk_at dksX6_least_0 9 rfl rfl)
theorem dX6_least_10 : decode cX6_least 10 = .ok (.ireturn, 1) := dk_172 (dk_at dksX6_least_0 10 rfl rfl)
abbrev kX6_least : KX := (cX6_least, "TissueBalloonsModel", "least", 2, some .int, [], 0)
abbrev cX6_sign : ByteArray := prog_14_method_40_code
def yX6_sign : MethodName := ⟨RX6, "sign", "(I)C"⟩
def dkwX6_sign_4 : List UInt8 := [5, 182, 0, 104, 4, 160, 0, 8, 16, 82, 167, 0, 5, 16, 114, 172]
abbrev dktX6_sign_4 : List UInt8 := dkwX6_sign_4 ++ []
def dkwX6_sign_3 : List UInt8 := [28, 156, 0, 6, 16, 46, 172, 42, 28, 6, 182, 0, 104, 4, 160, 0, 8, 16, 120, 167, 0, 20, 42, 28]
abbrev dktX6_sign_3 : List UInt8 := dkwX6_sign_3 ++ dktX6_sign_4
def dkwX6_sign_2 : List UInt8 := [28, 8, 182, 0, 140, 27, 160, 0, 6, 16, 111, 172, 132, 2, 1, 167, 255, 222, 42, 27, 182, 0, 110, 61]
abbrev dktX6_sign_2 : List UInt8 := dkwX6_sign_2 ++ dktX6_sign_3
def dkwX6_sign_1 : List UInt8 := [16, 32, 172, 3, 61, 28, 42, 180, 0, 7, 5, 46, 162, 0, 30, 42, 28, 182, 0, 143, 153, 0, 16, 42]
abbrev dktX6_sign_1 : List UInt8 := dkwX6_sign_1 ++ dktX6_sign_2
def dkwX6_sign_0 : List UInt8 := [42, 27, 184, 0, 107, 153, 0, 7, 3, 167, 0, 4, 4, 181, 0, 25, 42, 180, 0, 25, 158, 0, 6]
abbrev dktX6_sign_0 : List UInt8 := dkwX6_sign_0 ++ dktX6_sign_1
theorem dksX6_sign_0 : cX6_sign.data.toList.drop 0 = dktX6_sign_0 := by decide +kernel
theorem dksX6_sign_1 : cX6_sign.data.toList.drop 23 = dktX6_sign_1 := dk_seg dksX6_sign_0 23 rfl rfl
theorem dksX6_sign_2 : cX6_sign.data.toList.drop 47 = dktX6_sign_2 := dk_seg dksX6_sign_1 24 rfl rfl
theorem dksX6_sign_3 : cX6_sign.data.toList.drop 71 = dktX6_sign_3 := dk_seg dksX6_sign_2 24 rfl rfl
theorem dksX6_sign_4 : cX6_sign.data.toList.drop 95 = dktX6_sign_4 := dk_seg dksX6_sign_3 24 rfl rfl
theorem dX6_sign_0 : decode cX6_sign 0 = .ok (.aload_n 0, 1) := dk_42 (dk_at dksX6_sign_0 0 rfl rfl)
theorem dX6_sign_1 : decode cX6_sign 1 = .ok (.iload_n 1, 1) := dk_27 (dk_at dksX6_sign_0 1 rfl rfl)
theorem dX6_sign_2 : decode cX6_sign 2 = .ok (.invokestatic 107, 3) := dk_184 0 107 (dk_at dksX6_sign_0 2 rfl rfl)
theorem dX6_sign_5 : decode cX6_sign 5 = .ok (.ifCond .eq 7, 3) := dk_153 0 7 (dk_at dksX6_sign_0 5 rfl rfl)
theorem dX6_sign_8 : decode cX6_sign 8 = .ok (.iconst 0, 1) := dk_3 (dk_at dksX6_sign_0 8 rfl rfl)
theorem dX6_sign_9 : decode cX6_sign 9 = .ok (.goto 4, 3) := dk_167 0 4 (dk_at dksX6_sign_0 9 rfl rfl)
theorem dX6_sign_12 : decode cX6_sign 12 = .ok (.iconst 1, 1) := dk_4 (dk_at dksX6_sign_0 12 rfl rfl)
theorem dX6_sign_13 : decode cX6_sign 13 = .ok (.putfield 25, 3) := dk_181 0 25 (dk_at dksX6_sign_0 13 rfl rfl)
theorem dX6_sign_16 : decode cX6_sign 16 = .ok (.aload_n 0, 1) := dk_42 (dk_at dksX6_sign_0 16 rfl rfl)
theorem dX6_sign_17 : decode cX6_sign 17 = .ok (.getfield 25, 3) := dk_180 0 25 (dk_at dksX6_sign_0 17 rfl rfl)
theorem dX6_sign_20 : decode cX6_sign 20 = .ok (.ifCond .le 6, 3) := dk_158 0 6 (dk_at dksX6_sign_0 20 rfl rfl)
theorem dX6_sign_23 : decode cX6_sign 23 = .ok (.bipush 32, 2) := dk_16 32 (dk_at dksX6_sign_1 0 rfl rfl)
theorem dX6_sign_25 : decode cX6_sign 25 = .ok (.ireturn, 1) := dk_172 (dk_at dksX6_sign_1 2 rfl rfl)
theorem dX6_sign_26 : decode cX6_sign 26 = .ok (.iconst 0, 1) := dk_3 (dk_at dksX6_sign_1 3 rfl rfl)
theorem dX6_sign_27 : decode cX6_sign 27 = .ok (.istore_n 2, 1) := dk_61 (dk_at dksX6_sign_1 4 rfl rfl)
theorem dX6_sign_28 : decode cX6_sign 28 = .ok (.iload_n 2, 1) := dk_28 (dk_at dksX6_sign_1 5 rfl rfl)
theorem dX6_sign_29 : decode cX6_sign 29 = .ok (.aload_n 0, 1) := dk_42 (dk_at dksX6_sign_1 6 rfl rfl)
theorem dX6_sign_30 : decode cX6_sign 30 = .ok (.getfield 7, 3) := dk_180 0 7 (dk_at dksX6_sign_1 7 rfl rfl)
theorem dX6_sign_33 : decode cX6_sign 33 = .ok (.iconst 2, 1) := dk_5 (dk_at dksX6_sign_1 10 rfl rfl)
theorem dX6_sign_34 : decode cX6_sign 34 = .ok (.iaload, 1) := dk_46 (dk_at dksX6_sign_1 11 rfl rfl)
theorem dX6_sign_35 : decode cX6_sign 35 = .ok (.if_icmp .ge 30, 3) := dk_162 0 30 (dk_at dksX6_sign_1 12 rfl rfl)
theorem dX6_sign_38 : decode cX6_sign 38 = .ok (.aload_n 0, 1) := dk_42 (dk_at dksX6_sign_1 15 rfl rfl)
theorem dX6_sign_39 : decode cX6_sign 39 = .ok (.iload_n 2, 1) := dk_28 (dk_at dksX6_sign_1 16 rfl rfl)
theorem dX6_sign_40 : decode cX6_sign 40 = .ok (.invokevirtual 143, 3) := dk_182 0 143 (dk_at dksX6_sign_1 17 rfl rfl)
theorem dX6_sign_43 : decode cX6_sign 43 = .ok (.ifCond .eq 16, 3) := dk_153 0 16 (dk_at dksX6_sign_1 20 rfl rfl)
theorem dX6_sign_46 : decode cX6_sign 46 = .ok (.aload_n 0, 1) := dk_42 (dk_at dksX6_sign_1 23 rfl rfl)
theorem dX6_sign_47 : decode cX6_sign 47 = .ok (.iload_n 2, 1) := dk_28 (dk_at dksX6_sign_2 0 rfl rfl)
theorem dX6_sign_48 : decode cX6_sign 48 = .ok (.iconst 5, 1) := dk_8 (dk_at dksX6_sign_2 1 rfl rfl)
theorem dX6_sign_49 : decode cX6_sign 49 = .ok (.invokevirtual 140, 3) := dk_182 0 140 (dk_at dksX6_sign_2 2 rfl rfl)
theorem dX6_sign_52 : decode cX6_sign 52 = .ok (.iload_n 1, 1) := dk_27 (dk_at dksX6_sign_2 5 rfl rfl)
theorem dX6_sign_53 : decode cX6_sign 53 = .ok (.if_icmp .ne 6, 3) := dk_160 0 6 (dk_at dksX6_sign_2 6 rfl rfl)
theorem dX6_sign_56 : decode cX6_sign 56 = .ok (.bipush 111, 2) := dk_16 111 (dk_at dksX6_sign_2 9 rfl rfl)
theorem dX6_sign_58 : decode cX6_sign 58 = .ok (.ireturn, 1) := dk_172 (dk_at dksX6_sign_2 11 rfl rfl)
theorem dX6_sign_59 : decode cX6_sign 59 = .ok (.iinc 2 1, 3) := dk_132 2 1 (dk_at dksX6_sign_2 12 rfl rfl)
theorem dX6_sign_62 : decode cX6_sign 62 = .ok (.goto (-34), 3) := dk_167 255 222 (dk_at dksX6_sign_2 15 rfl rfl)
theorem dX6_sign_65 : decode cX6_sign 65 = .ok (.aload_n 0, 1) := dk_42 (dk_at dksX6_sign_2 18 rfl rfl)
theorem dX6_sign_66 : decode cX6_sign 66 = .ok (.iload_n 1, 1) := dk_27 (dk_at dksX6_sign_2 19 rfl rfl)
theorem dX6_sign_67 : decode cX6_sign 67 = .ok (.invokevirtual 110, 3) := dk_182 0 110 (dk_at dksX6_sign_2 20 rfl rfl)
theorem dX6_sign_70 : decode cX6_sign 70 = .ok (.istore_n 2, 1) := dk_61 (dk_at dksX6_sign_2 23 rfl rfl)
theorem dX6_sign_71 : decode cX6_sign 71 = .ok (.iload_n 2, 1) := dk_28 (dk_at dksX6_sign_3 0 rfl rfl)
theorem dX6_sign_72 : decode cX6_sign 72 = .ok (.ifCond .ge 6, 3) := dk_156 0 6 (dk_at dksX6_sign_3 1 rfl rfl)
theorem dX6_sign_75 : decode cX6_sign 75 = .ok (.bipush 46, 2) := dk_16 46 (dk_at dksX6_sign_3 4 rfl rfl)
theorem dX6_sign_77 : decode cX6_sign 77 = .ok (.ireturn, 1) := dk_172 (dk_at dksX6_sign_3 6 rfl rfl)
theorem dX6_sign_78 : decode cX6_sign 78 = .ok (.aload_n 0, 1) := dk_42 (dk_at dksX6_sign_3 7 rfl rfl)
theorem dX6_sign_79 : decode cX6_sign 79 = .ok (.iload_n 2, 1) := dk_28 (dk_at dksX6_sign_3 8 rfl rfl)
theorem dX6_sign_80 : decode cX6_sign 80 = .ok (.iconst 3, 1) := dk_6 (dk_at dksX6_sign_3 9 rfl rfl)
theorem dX6_sign_81 : decode cX6_sign 81 = .ok (.invokevirtual 104, 3) := dk_182 0 104 (dk_at dksX6_sign_3 10 rfl rfl)
theorem dX6_sign_84 : decode cX6_sign 84 = .ok (.iconst 1, 1) := dk_4 (dk_at dksX6_sign_3 13 rfl rfl)
theorem dX6_sign_85 : decode cX6_sign 85 = .ok (.if_icmp .ne 8, 3) := dk_160 0 8 (dk_at dksX6_sign_3 14 rfl rfl)
theorem dX6_sign_88 : decode cX6_sign 88 = .ok (.bipush 120, 2) := dk_16 120 (dk_at dksX6_sign_3 17 rfl rfl)
theorem dX6_sign_90 : decode cX6_sign 90 = .ok (.goto 20, 3) := dk_167 0 20 (dk_at dksX6_sign_3 19 rfl rfl)
theorem dX6_sign_93 : decode cX6_sign 93 = .ok (.aload_n 0, 1) := dk_42 (dk_at dksX6_sign_3 22 rfl rfl)
theorem dX6_sign_94 : decode cX6_sign 94 = .ok (.iload_n 2, 1) := dk_28 (dk_at dksX6_sign_3 23 rfl rfl)
theorem dX6_sign_95 : decode cX6_sign 95 = .ok (.iconst 2, 1) := dk_5 (dk_at dksX6_sign_4 0 rfl rfl)
theorem dX6_sign_96 : decode cX6_sign 96 = .ok (.invokevirtual 104, 3) := dk_182 0 104 (dk_at dksX6_sign_4 1 rfl rfl)
theorem dX6_sign_99 : decode cX6_sign 99 = .ok (.iconst 1, 1) := dk_4 (dk_at dksX6_sign_4 4 rfl rfl)
theorem dX6_sign_100 : decode cX6_sign 100 = .ok (.if_icmp .ne 8, 3) := dk_160 0 8 (dk_at dksX6_sign_4 5 rfl rfl)
theorem dX6_sign_103 : decode cX6_sign 103 = .ok (.bipush 82, 2) := dk_16 82 (dk_at dksX6_sign_4 8 rfl rfl)
theorem dX6_sign_105 : decode cX6_sign 105 = .ok (.goto 5, 3) := dk_167 0 5 (dk_at dksX6_sign_4 10 rfl rfl)
theorem dX6_sign_108 : decode cX6_sign 108 = .ok (.bipush 114, 2) := dk_16 114 (dk_at dksX6_sign_4 13 rfl rfl)
theorem dX6_sign_110 : decode cX6_sign 110 = .ok (.ireturn, 1) := dk_172 (dk_at dksX6_sign_4 15 rfl rfl)
abbrev kX6_sign : KX := (cX6_sign, "TissueBalloonsModel", "sign", 3, some .char, [], 2)
abbrev cX6_isFlying : ByteArray := prog_14_method_39_code
def yX6_isFlying : MethodName := ⟨RX6, "isFlying", "(I)Z"⟩
def dkwX6_isFlying_0 : List UInt8 := [42, 27, 3, 182, 0, 140, 4, 160, 0, 7, 4, 167, 0, 4, 3, 172]
abbrev dktX6_isFlying_0 : List UInt8 := dkwX6_isFlying_0 ++ []
theorem dksX6_isFlying_0 : cX6_isFlying.data.toList.drop 0 = dktX6_isFlying_0 := by decide +kernel
theorem dX6_isFlying_0 : decode cX6_isFlying 0 = .ok (.aload_n 0, 1) := dk_42 (dk_at dksX6_isFlying_0 0 rfl rfl)
theorem dX6_isFlying_1 : decode cX6_isFlying 1 = .ok (.iload_n 1, 1) := dk_27 (dk_at dksX6_isFlying_0 1 rfl rfl)
theorem dX6_isFlying_2 : decode cX6_isFlying 2 = .ok (.iconst 0, 1) := dk_3 (dk_at dksX6_isFlying_0 2 rfl rfl)
theorem dX6_isFlying_3 : decode cX6_isFlying 3 = .ok (.invokevirtual 140, 3) := dk_182 0 140 (dk_at dksX6_isFlying_0 3 rfl rfl)
theorem dX6_isFlying_6 : decode cX6_isFlying 6 = .ok (.iconst 1, 1) := dk_4 (dk_at dksX6_isFlying_0 6 rfl rfl)
theorem dX6_isFlying_7 : decode cX6_isFlying 7 = .ok (.if_icmp .ne 7, 3) := dk_160 0 7 (dk_at dksX6_isFlying_0 7 rfl rfl)
theorem dX6_isFlying_10 : decode cX6_isFlying 10 = .ok (.iconst 1, 1) := dk_4 (dk_at dksX6_isFlying_0 10 rfl rfl)
theorem dX6_isFlying_11 : decode cX6_isFlying 11 = .ok (.goto 4, 3) := dk_167 0 4 (dk_at dksX6_isFlying_0 11 rfl rfl)
theorem dX6_isFlying_14 : decode cX6_isFlying 14 = .ok (.iconst 0, 1) := dk_3 (dk_at dksX6_isFlying_0 14 rfl rfl)
theorem dX6_isFlying_15 : decode cX6_isFlying 15 = .ok (.ireturn, 1) := dk_172 (dk_at dksX6_isFlying_0 15 rfl rfl)
abbrev kX6_isFlying : KX := (cX6_isFlying, "TissueBalloonsModel", "isFlying", 2, some .boolean, [], 1)
abbrev cX6_bv : ByteArray := prog_14_method_14_code
def yX6_bv : MethodName := ⟨RX6, "bv", "(II)I"⟩
def dkwX6_bv_0 : List UInt8 := [42, 180, 0, 7, 16, 52, 16, 7, 27, 104, 96, 28, 96, 46, 172]
abbrev dktX6_bv_0 : List UInt8 := dkwX6_bv_0 ++ []
theorem dksX6_bv_0 : cX6_bv.data.toList.drop 0 = dktX6_bv_0 := by decide +kernel
theorem dX6_bv_0 : decode cX6_bv 0 = .ok (.aload_n 0, 1) := dk_42 (dk_at dksX6_bv_0 0 rfl rfl)
theorem dX6_bv_1 : decode cX6_bv 1 = .ok (.getfield 7, 3) := dk_180 0 7 (dk_at dksX6_bv_0 1 rfl rfl)
theorem dX6_bv_4 : decode cX6_bv 4 = .ok (.bipush 52, 2) := dk_16 52 (dk_at dksX6_bv_0 4 rfl rfl)
theorem dX6_bv_6 : decode cX6_bv 6 = .ok (.bipush 7, 2) := dk_16 7 (dk_at dksX6_bv_0 6 rfl rfl)
theorem dX6_bv_8 : decode cX6_bv 8 = .ok (.iload_n 1, 1) := dk_27 (dk_at dksX6_bv_0 8 rfl rfl)
theorem dX6_bv_9 : decode cX6_bv 9 = .ok (.imul, 1) := dk_104 (dk_at dksX6_bv_0 9 rfl rfl)
theorem dX6_bv_10 : decode cX6_bv 10 = .ok (.iadd, 1) := dk_96 (dk_at dksX6_bv_0 10 rfl rfl)
theorem dX6_bv_11 : decode cX6_bv 11 = .ok (.iload_n 2, 1) := dk_28 (dk_at dksX6_bv_0 11 rfl rfl)
theorem dX6_bv_12 : decode cX6_bv 12 = .ok (.iadd, 1) := dk_96 (dk_at dksX6_bv_0 12 rfl rfl)
theorem dX6_bv_13 : decode cX6_bv 13 = .ok (.iaload, 1) := dk_46 (dk_at dksX6_bv_0 13 rfl rfl)
theorem dX6_bv_14 : decode cX6_bv 14 = .ok (.ireturn, 1) := dk_172 (dk_at dksX6_bv_0 14 rfl rfl)
abbrev kX6_bv : KX := (cX6_bv, "TissueBalloonsModel", "bv", 3, some .int, [], 0)
abbrev cX6_balloon : ByteArray := prog_14_method_41_code
def yX6_balloon : MethodName := ⟨RX6, "balloon", "(III)I"⟩
def dkwX6_balloon_6 : List UInt8 := [172]
abbrev dktX6_balloon_6 : List UInt8 := dkwX6_balloon_6 ++ []
def dkwX6_balloon_5 : List UInt8 := [21, 4, 16, 6, 3, 182, 0, 146, 42, 180, 0, 7, 5, 92, 46, 4, 96, 79, 42, 21, 4, 182, 0, 101]
abbrev dktX6_balloon_5 : List UInt8 := dkwX6_balloon_5 ++ dktX6_balloon_6
def dkwX6_balloon_4 : List UInt8 := [21, 4, 6, 29, 182, 0, 146, 42, 21, 4, 7, 2, 182, 0, 146, 42, 21, 4, 8, 2, 182, 0, 146, 42]
abbrev dktX6_balloon_4 : List UInt8 := dkwX6_balloon_4 ++ dktX6_balloon_5
def dkwX6_balloon_3 : List UInt8 := [21, 4, 3, 3, 182, 0, 146, 42, 21, 4, 4, 27, 182, 0, 146, 42, 21, 4, 5, 28, 182, 0, 146, 42]
abbrev dktX6_balloon_3 : List UInt8 := dkwX6_balloon_3 ++ dktX6_balloon_4
def dkwX6_balloon_2 : List UInt8 := [21, 4, 16, 20, 160, 0, 19, 42, 4, 16, 20, 182, 0, 113, 153, 0, 9, 42, 5, 182, 0, 117, 172, 42]
abbrev dktX6_balloon_2 : List UInt8 := dkwX6_balloon_2 ++ dktX6_balloon_3
def dkwX6_balloon_1 : List UInt8 := [29, 3, 16, 9, 184, 0, 83, 154, 0, 9, 42, 4, 182, 0, 75, 172, 42, 180, 0, 7, 5, 46, 54, 4]
abbrev dktX6_balloon_1 : List UInt8 := dkwX6_balloon_1 ++ dktX6_balloon_2
def dkwX6_balloon_0 : List UInt8 := [42, 182, 0, 87, 27, 4, 16, 9, 184, 0, 83, 153, 0, 23, 28, 4, 16, 30, 184, 0, 83, 153, 0, 13]
abbrev dktX6_balloon_0 : List UInt8 := dkwX6_balloon_0 ++ dktX6_balloon_1
theorem dksX6_balloon_0 : cX6_balloon.data.toList.drop 0 = dktX6_balloon_0 := by decide +kernel
theorem dksX6_balloon_1 : cX6_balloon.data.toList.drop 24 = dktX6_balloon_1 := dk_seg dksX6_balloon_0 24 rfl rfl
theorem dksX6_balloon_2 : cX6_balloon.data.toList.drop 48 = dktX6_balloon_2 := dk_seg dksX6_balloon_1 24 rfl rfl
theorem dksX6_balloon_3 : cX6_balloon.data.toList.drop 72 = dktX6_balloon_3 := dk_seg dksX6_balloon_2 24 rfl rfl
theorem dksX6_balloon_4 : cX6_balloon.data.toList.drop 96 = dktX6_balloon_4 := dk_seg dksX6_balloon_3 24 rfl rfl
theorem dksX6_balloon_5 : cX6_balloon.data.toList.drop 120 = dktX6_balloon_5 := dk_seg dksX6_balloon_4 24 rfl rfl
theorem dksX6_balloon_6 : cX6_balloon.data.toList.drop 144 = dktX6_balloon_6 := dk_seg dksX6_balloon_5 24 rfl rfl
theorem dX6_balloon_0 : decode cX6_balloon 0 = .ok (.aload_n 0, 1) := dk_42 (dk_at dksX6_balloon_0 0 rfl rfl)
theorem dX6_balloon_1 : decode cX6_balloon 1 = .ok (.invokevirtual 87, 3) := dk_182 0 87 (dk_at dksX6_balloon_0 1 rfl rfl)
theorem dX6_balloon_4 : decode cX6_balloon 4 = .ok (.iload_n 1, 1) := dk_27 (dk_at dksX6_balloon_0 4 rfl rfl)
theorem dX6_balloon_5 : decode cX6_balloon 5 = .ok (.iconst 1, 1) := dk_4 (dk_at dksX6_balloon_0 5 rfl rfl)
theorem dX6_balloon_6 : decode cX6_balloon 6 = .ok (.bipush 9, 2) := dk_16 9 (dk_at dksX6_balloon_0 6 rfl rfl)
theorem dX6_balloon_8 : decode cX6_balloon 8 = .ok (.invokestatic 83, 3) := dk_184 0 83 (dk_at dksX6_balloon_0 8 rfl rfl)
theorem dX6_balloon_11 : decode cX6_balloon 11 = .ok (.ifCond .eq 23, 3) := dk_153 0 23 (dk_at dksX6_balloon_0 11 rfl rfl)
theorem dX6_balloon_14 : decode cX6_balloon 14 = .ok (.iload_n 2, 1) := dk_28 (dk_at dksX6_balloon_0 14 rfl rfl)
theorem dX6_balloon_15 : decode cX6_balloon 15 = .ok (.iconst 1, 1) := dk_4 (dk_at dksX6_balloon_0 15 rfl rfl)
theorem dX6_balloon_16 : decode cX6_balloon 16 = .ok (.bipush 30, 2) := dk_16 30 (dk_at dksX6_balloon_0 16 rfl rfl)
theorem dX6_balloon_18 : decode cX6_balloon 18 = .ok (.invokestatic 83, 3) := dk_184 0 83 (dk_at dksX6_balloon_0 18 rfl rfl)
theorem dX6_balloon_21 : decode cX6_balloon 21 = .ok (.ifCond .eq 13, 3) := dk_153 0 13 (dk_at dksX6_balloon_0 21 rfl rfl)
theorem dX6_balloon_24 : decode cX6_balloon 24 = .ok (.iload_n 3, 1) := dk_29 (dk_at dksX6_balloon_1 0 rfl rfl)
theorem dX6_balloon_25 : decode cX6_balloon 25 = .ok (.iconst 0, 1) := dk_3 (dk_at dksX6_balloon_1 1 rfl rfl)
theorem dX6_balloon_26 : decode cX6_balloon 26 = .ok (.bipush 9, 2) := dk_16 9 (dk_at dksX6_balloon_1 2 rfl rfl)
theorem dX6_balloon_28 : decode cX6_balloon 28 = .ok (.invokestatic 83, 3) := dk_184 0 83 (dk_at dksX6_balloon_1 4 rfl rfl)
theorem dX6_balloon_31 : decode cX6_balloon 31 = .ok (.ifCond .ne 9, 3) := dk_154 0 9 (dk_at dksX6_balloon_1 7 rfl rfl)
theorem dX6_balloon_34 : decode cX6_balloon 34 = .ok (.aload_n 0, 1) := dk_42 (dk_at dksX6_balloon_1 10 rfl rfl)
theorem dX6_balloon_35 : decode cX6_balloon 35 = .ok (.iconst 1, 1) := dk_4 (dk_at dksX6_balloon_1 11 rfl rfl)
theorem dX6_balloon_36 : decode cX6_balloon 36 = .ok (.invokevirtual 75, 3) := dk_182 0 75 (dk_at dksX6_balloon_1 12 rfl rfl)
theorem dX6_balloon_39 : decode cX6_balloon 39 = .ok (.ireturn, 1) := dk_172 (dk_at dksX6_balloon_1 15 rfl rfl)
theorem dX6_balloon_40 : decode cX6_balloon 40 = .ok (.aload_n 0, 1) := dk_42 (dk_at dksX6_balloon_1 16 rfl rfl)
theorem dX6_balloon_41 : decode cX6_balloon 41 = .ok (.getfield 7, 3) := dk_180 0 7 (dk_at dksX6_balloon_1 17 rfl rfl)
theorem dX6_balloon_44 : decode cX6_balloon 44 = .ok (.iconst 2, 1) := dk_5 (dk_at dksX6_balloon_1 20 rfl rfl)
theorem dX6_balloon_45 : decode cX6_balloon 45 = .ok (.iaload, 1) := dk_46 (dk_at dksX6_balloon_1 21 rfl rfl)
theorem dX6_balloon_46 : decode cX6_balloon 46 = .ok (.istore 4, 2) := dk_54 4 (dk_at dksX6_balloon_1 22 rfl rfl)
theorem dX6_balloon_48 : decode cX6_balloon 48 = .ok (.iload 4, 2) := dk_21 4 (dk_at dksX6_balloon_2 0 rfl rfl)
theorem dX6_balloon_50 : decode cX6_balloon 50 = .ok (.bipush 20, 2) := dk_16 20 (dk_at dksX6_balloon_2 2 rfl rfl)
theorem dX6_balloon_52 : decode cX6_balloon 52 = .ok (.if_icmp .ne 19, 3) := dk_160 0 19 (dk_at dksX6_balloon_2 4 rfl rfl)
theorem dX6_balloon_55 : decode cX6_balloon 55 = .ok (.aload_n 0, 1) := dk_42 (dk_at dksX6_balloon_2 7 rfl rfl)
theorem dX6_balloon_56 : decode cX6_balloon 56 = .ok (.iconst 1, 1) := dk_4 (dk_at dksX6_balloon_2 8 rfl rfl)
theorem dX6_balloon_57 : decode cX6_balloon 57 = .ok (.bipush 20, 2) := dk_16 20 (dk_at dksX6_balloon_2 9 rfl rfl)
theorem dX6_balloon_59 : decode cX6_balloon 59 = .ok (.invokevirtual 113, 3) := dk_182 0 113 (dk_at dksX6_balloon_2 11 rfl rfl)
theorem dX6_balloon_62 : decode cX6_balloon 62 = .ok (.ifCond .eq 9, 3) := dk_153 0 9 (dk_at dksX6_balloon_2 14 rfl rfl)
theorem dX6_balloon_65 : decode cX6_balloon 65 = .ok (.aload_n 0, 1) := dk_42 (dk_at dksX6_balloon_2 17 rfl rfl)
theorem dX6_balloon_66 : decode cX6_balloon 66 = .ok (.iconst 2, 1) := dk_5 (dk_at dksX6_balloon_2 18 rfl rfl)
theorem dX6_balloon_67 : decode cX6_balloon 67 = .ok (.invokevirtual 117, 3) := dk_182 0 117 (dk_at dksX6_balloon_2 19 rfl rfl)
theorem dX6_balloon_70 : decode cX6_balloon 70 = .ok (.ireturn, 1) := dk_172 (dk_at dksX6_balloon_2 22 rfl rfl)
theorem dX6_balloon_71 : decode cX6_balloon 71 = .ok (.aload_n 0, 1) := dk_42 (dk_at dksX6_balloon_2 23 rfl rfl)
theorem dX6_balloon_72 : decode cX6_balloon 72 = .ok (.iload 4, 2) := dk_21 4 (dk_at dksX6_balloon_3 0 rfl rfl)
theorem dX6_balloon_74 : decode cX6_balloon 74 = .ok (.iconst 0, 1) := dk_3 (dk_at dksX6_balloon_3 2 rfl rfl)
theorem dX6_balloon_75 : decode cX6_balloon 75 = .ok (.iconst 0, 1) := dk_3 (dk_at dksX6_balloon_3 3 rfl rfl)
theorem dX6_balloon_76 : decode cX6_balloon 76 = .ok (.invokevirtual 146, 3) := dk_182 0 146 (dk_at dksX6_balloon_3 4 rfl rfl)
theorem dX6_balloon_79 : decode cX6_balloon 79 = .ok (.aload_n 0, 1) := dk_42 (dk_at dksX6_balloon_3 7 rfl rfl)
theorem dX6_balloon_80 : decode cX6_balloon 80 = .ok (.iload 4, 2) := dk_21 4 (dk_at dksX6_balloon_3 8 rfl rfl)
theorem dX6_balloon_82 : decode cX6_balloon 82 = .ok (.iconst 1, 1) := dk_4 (dk_at dksX6_balloon_3 10 rfl rfl)
theorem dX6_balloon_83 : decode cX6_balloon 83 = .ok (.iload_n 1, 1) := dk_27 (dk_at dksX6_balloon_3 11 rfl rfl)
theorem dX6_balloon_84 : decode cX6_balloon 84 = .ok (.invokevirtual 146, 3) := dk_182 0 146 (dk_at dksX6_balloon_3 12 rfl rfl)
theorem dX6_balloon_87 : decode cX6_balloon 87 = .ok (.aload_n 0, 1) := dk_42 (dk_at dksX6_balloon_3 15 rfl rfl)
theorem dX6_balloon_88 : decode cX6_balloon 88 = .ok (.iload 4, 2) := dk_21 4 (dk_at dksX6_balloon_3 16 rfl rfl)
theorem dX6_balloon_90 : decode cX6_balloon 90 = .ok (.iconst 2, 1) := dk_5 (dk_at dksX6_balloon_3 18 rfl rfl)
theorem dX6_balloon_91 : decode cX6_balloon 91 = .ok (.iload_n 2, 1) := dk_28 (dk_at dksX6_balloon_3 19 rfl rfl)
theorem dX6_balloon_92 : decode cX6_balloon 92 = .ok (.invokevirtual 146, 3) := dk_182 0 146 (dk_at dksX6_balloon_3 20 rfl rfl)
theorem dX6_balloon_95 : decode cX6_balloon 95 = .ok (.aload_n 0, 1) := dk_42 (dk_at dksX6_balloon_3 23 rfl rfl)
theorem dX6_balloon_96 : decode cX6_balloon 96 = .ok (.iload 4, 2) := dk_21 4 (dk_at dksX6_balloon_4 0 rfl rfl)
theorem dX6_balloon_98 : decode cX6_balloon 98 = .ok (.iconst 3, 1) := dk_6 (dk_at dksX6_balloon_4 2 rfl rfl)
theorem dX6_balloon_99 : decode cX6_balloon 99 = .ok (.iload_n 3, 1) := dk_29 (dk_at dksX6_balloon_4 3 rfl rfl)
theorem dX6_balloon_100 : decode cX6_balloon 100 = .ok (.invokevirtual 146, 3) := dk_182 0 146 (dk_at dksX6_balloon_4 4 rfl rfl)
theorem dX6_balloon_103 : decode cX6_balloon 103 = .ok (.aload_n 0, 1) := dk_42 (dk_at dksX6_balloon_4 7 rfl rfl)
theorem dX6_balloon_104 : decode cX6_balloon 104 = .ok (.iload 4, 2) := dk_21 4 (dk_at dksX6_balloon_4 8 rfl rfl)
theorem dX6_balloon_106 : decode cX6_balloon 106 = .ok (.iconst 4, 1) := dk_7 (dk_at dksX6_balloon_4 10 rfl rfl)
theorem dX6_balloon_107 : decode cX6_balloon 107 = .ok (.iconst (-1), 1) := dk_2 (dk_at dksX6_balloon_4 11 rfl rfl)
theorem dX6_balloon_108 : decode cX6_balloon 108 = .ok (.invokevirtual 146, 3) := dk_182 0 146 (dk_at dksX6_balloon_4 12 rfl rfl)
theorem dX6_balloon_111 : decode cX6_balloon 111 = .ok (.aload_n 0, 1) := dk_42 (dk_at dksX6_balloon_4 15 rfl rfl)
theorem dX6_balloon_112 : decode cX6_balloon 112 = .ok (.iload 4, 2) := dk_21 4 (dk_at dksX6_balloon_4 16 rfl rfl)
theorem dX6_balloon_114 : decode cX6_balloon 114 = .ok (.iconst 5, 1) := dk_8 (dk_at dksX6_balloon_4 18 rfl rfl)
theorem dX6_balloon_115 : decode cX6_balloon 115 = .ok (.iconst (-1), 1) := dk_2 (dk_at dksX6_balloon_4 19 rfl rfl)
theorem dX6_balloon_116 : decode cX6_balloon 116 = .ok (.invokevirtual 146, 3) := dk_182 0 146 (dk_at dksX6_balloon_4 20 rfl rfl)
theorem dX6_balloon_119 : decode cX6_balloon 119 = .ok (.aload_n 0, 1) := dk_42 (dk_at dksX6_balloon_4 23 rfl rfl)
theorem dX6_balloon_120 : decode cX6_balloon 120 = .ok (.iload 4, 2) := dk_21 4 (dk_at dksX6_balloon_5 0 rfl rfl)
theorem dX6_balloon_122 : decode cX6_balloon 122 = .ok (.bipush 6, 2) := dk_16 6 (dk_at dksX6_balloon_5 2 rfl rfl)
theorem dX6_balloon_124 : decode cX6_balloon 124 = .ok (.iconst 0, 1) := dk_3 (dk_at dksX6_balloon_5 4 rfl rfl)
theorem dX6_balloon_125 : decode cX6_balloon 125 = .ok (.invokevirtual 146, 3) := dk_182 0 146 (dk_at dksX6_balloon_5 5 rfl rfl)
theorem dX6_balloon_128 : decode cX6_balloon 128 = .ok (.aload_n 0, 1) := dk_42 (dk_at dksX6_balloon_5 8 rfl rfl)
theorem dX6_balloon_129 : decode cX6_balloon 129 = .ok (.getfield 7, 3) := dk_180 0 7 (dk_at dksX6_balloon_5 9 rfl rfl)
theorem dX6_balloon_132 : decode cX6_balloon 132 = .ok (.iconst 2, 1) := dk_5 (dk_at dksX6_balloon_5 12 rfl rfl)
theorem dX6_balloon_133 : decode cX6_balloon 133 = .ok (.dup2, 1) := dk_92 (dk_at dksX6_balloon_5 13 rfl rfl)
theorem dX6_balloon_134 : decode cX6_balloon 134 = .ok (.iaload, 1) := dk_46 (dk_at dksX6_balloon_5 14 rfl rfl)
theorem dX6_balloon_135 : decode cX6_balloon 135 = .ok (.iconst 1, 1) := dk_4 (dk_at dksX6_balloon_5 15 rfl rfl)
theorem dX6_balloon_136 : decode cX6_balloon 136 = .ok (.iadd, 1) := dk_96 (dk_at dksX6_balloon_5 16 rfl rfl)
theorem dX6_balloon_137 : decode cX6_balloon 137 = .ok (.iastore, 1) := dk_79 (dk_at dksX6_balloon_5 17 rfl rfl)
theorem dX6_balloon_138 : decode cX6_balloon 138 = .ok (.aload_n 0, 1) := dk_42 (dk_at dksX6_balloon_5 18 rfl rfl)
theorem dX6_balloon_139 : decode cX6_balloon 139 = .ok (.iload 4, 2) := dk_21 4 (dk_at dksX6_balloon_5 19 rfl rfl)
theorem dX6_balloon_141 : decode cX6_balloon 141 = .ok (.invokevirtual 101, 3) := dk_182 0 101 (dk_at dksX6_balloon_5 21 rfl rfl)
theorem dX6_balloon_144 : decode cX6_balloon 144 = .ok (.ireturn, 1) := dk_172 (dk_at dksX6_balloon_6 0 rfl rfl)
abbrev kX6_balloon : KX := (cX6_balloon, "TissueBalloonsModel", "balloon", 5, some .int, [], 2)
abbrev cX6_lb : ByteArray := prog_14_method_15_code
def yX6_lb : MethodName := ⟨RX6, "lb", "(III)V"⟩
def dkwX6_lb_0 : List UInt8 := [42, 180, 0, 7, 16, 52, 16, 7, 27, 104, 96, 28, 96, 29, 79, 177]
abbrev dktX6_lb_0 : List UInt8 := dkwX6_lb_0 ++ []
theorem dksX6_lb_0 : cX6_lb.data.toList.drop 0 = dktX6_lb_0 := by decide +kernel
theorem dX6_lb_0 : decode cX6_lb 0 = .ok (.aload_n 0, 1) := dk_42 (dk_at dksX6_lb_0 0 rfl rfl)
theorem dX6_lb_1 : decode cX6_lb 1 = .ok (.getfield 7, 3) := dk_180 0 7 (dk_at dksX6_lb_0 1 rfl rfl)
theorem dX6_lb_4 : decode cX6_lb 4 = .ok (.bipush 52, 2) := dk_16 52 (dk_at dksX6_lb_0 4 rfl rfl)
theorem dX6_lb_6 : decode cX6_lb 6 = .ok (.bipush 7, 2) := dk_16 7 (dk_at dksX6_lb_0 6 rfl rfl)
theorem dX6_lb_8 : decode cX6_lb 8 = .ok (.iload_n 1, 1) := dk_27 (dk_at dksX6_lb_0 8 rfl rfl)
theorem dX6_lb_9 : decode cX6_lb 9 = .ok (.imul, 1) := dk_104 (dk_at dksX6_lb_0 9 rfl rfl)
theorem dX6_lb_10 : decode cX6_lb 10 = .ok (.iadd, 1) := dk_96 (dk_at dksX6_lb_0 10 rfl rfl)
theorem dX6_lb_11 : decode cX6_lb 11 = .ok (.iload_n 2, 1) := dk_28 (dk_at dksX6_lb_0 11 rfl rfl)
theorem dX6_lb_12 : decode cX6_lb 12 = .ok (.iadd, 1) := dk_96 (dk_at dksX6_lb_0 12 rfl rfl)
theorem dX6_lb_13 : decode cX6_lb 13 = .ok (.iload_n 3, 1) := dk_29 (dk_at dksX6_lb_0 13 rfl rfl)
theorem dX6_lb_14 : decode cX6_lb 14 = .ok (.iastore, 1) := dk_79 (dk_at dksX6_lb_0 14 rfl rfl)
theorem dX6_lb_15 : decode cX6_lb 15 = .ok (.return_, 1) := dk_177 (dk_at dksX6_lb_0 15 rfl rfl)
abbrev kX6_lb : KX := (cX6_lb, "TissueBalloonsModel", "lb", 4, none, [], 0)
abbrev cX6_crew : ByteArray := prog_14_method_42_code
def yX6_crew : MethodName := ⟨RX6, "crew", "(I)I"⟩
def dkwX6_crew_3 : List UInt8 := [4, 96, 79, 42, 28, 182, 0, 101, 172]
abbrev dktX6_crew_3 : List UInt8 := dkwX6_crew_3 ++ []
def dkwX6_crew_2 : List UInt8 := [182, 0, 149, 42, 28, 4, 3, 182, 0, 149, 42, 28, 5, 3, 182, 0, 149, 42, 180, 0, 7, 6, 92, 46]
abbrev dktX6_crew_2 : List UInt8 := dkwX6_crew_2 ++ dktX6_crew_3
def dkwX6_crew_1 : List UInt8 := [28, 7, 160, 0, 18, 42, 4, 7, 182, 0, 113, 153, 0, 9, 42, 5, 182, 0, 117, 172, 42, 28, 3, 27]
abbrev dktX6_crew_1 : List UInt8 := dkwX6_crew_1 ++ dktX6_crew_2
def dkwX6_crew_0 : List UInt8 := [42, 182, 0, 87, 27, 184, 0, 107, 154, 0, 9, 42, 4, 182, 0, 75, 172, 42, 180, 0, 7, 6, 46, 61]
abbrev dktX6_crew_0 : List UInt8 := dkwX6_crew_0 ++ dktX6_crew_1
theorem dksX6_crew_0 : cX6_crew.data.toList.drop 0 = dktX6_crew_0 := by decide +kernel
theorem dksX6_crew_1 : cX6_crew.data.toList.drop 24 = dktX6_crew_1 := dk_seg dksX6_crew_0 24 rfl rfl
theorem dksX6_crew_2 : cX6_crew.data.toList.drop 48 = dktX6_crew_2 := dk_seg dksX6_crew_1 24 rfl rfl
theorem dksX6_crew_3 : cX6_crew.data.toList.drop 72 = dktX6_crew_3 := dk_seg dksX6_crew_2 24 rfl rfl
theorem dX6_crew_0 : decode cX6_crew 0 = .ok (.aload_n 0, 1) := dk_42 (dk_at dksX6_crew_0 0 rfl rfl)
theorem dX6_crew_1 : decode cX6_crew 1 = .ok (.invokevirtual 87, 3) := dk_182 0 87 (dk_at dksX6_crew_0 1 rfl rfl)
theorem dX6_crew_4 : decode cX6_crew 4 = .ok (.iload_n 1, 1) := dk_27 (dk_at dksX6_crew_0 4 rfl rfl)
theorem dX6_crew_5 : decode cX6_crew 5 = .ok (.invokestatic 107, 3) := dk_184 0 107 (dk_at dksX6_crew_0 5 rfl rfl)
theorem dX6_crew_8 : decode cX6_crew 8 = .ok (.ifCond .ne 9, 3) := dk_154 0 9 (dk_at dksX6_crew_0 8 rfl rfl)
theorem dX6_crew_11 : decode cX6_crew 11 = .ok (.aload_n 0, 1) := dk_42 (dk_at dksX6_crew_0 11 rfl rfl)
theorem dX6_crew_12 : decode cX6_crew 12 = .ok (.iconst 1, 1) := dk_4 (dk_at dksX6_crew_0 12 rfl rfl)
theorem dX6_crew_13 : decode cX6_crew 13 = .ok (.invokevirtual 75, 3) := dk_182 0 75 (dk_at dksX6_crew_0 13 rfl rfl)
theorem dX6_crew_16 : decode cX6_crew 16 = .ok (.ireturn, 1) := dk_172 (dk_at dksX6_crew_0 16 rfl rfl)
theorem dX6_crew_17 : decode cX6_crew 17 = .ok (.aload_n 0, 1) := dk_42 (dk_at dksX6_crew_0 17 rfl rfl)
theorem dX6_crew_18 : decode cX6_crew 18 = .ok (.getfield 7, 3) := dk_180 0 7 (dk_at dksX6_crew_0 18 rfl rfl)
theorem dX6_crew_21 : decode cX6_crew 21 = .ok (.iconst 3, 1) := dk_6 (dk_at dksX6_crew_0 21 rfl rfl)
theorem dX6_crew_22 : decode cX6_crew 22 = .ok (.iaload, 1) := dk_46 (dk_at dksX6_crew_0 22 rfl rfl)
theorem dX6_crew_23 : decode cX6_crew 23 = .ok (.istore_n 2, 1) := dk_61 (dk_at dksX6_crew_0 23 rfl rfl)
theorem dX6_crew_24 : decode cX6_crew 24 = .ok (.iload_n 2, 1) := dk_28 (dk_at dksX6_crew_1 0 rfl rfl)
theorem dX6_crew_25 : decode cX6_crew 25 = .ok (.iconst 4, 1) := dk_7 (dk_at dksX6_crew_1 1 rfl rfl)
theorem dX6_crew_26 : decode cX6_crew 26 = .ok (.if_icmp .ne 18, 3) := dk_160 0 18 (dk_at dksX6_crew_1 2 rfl rfl)
theorem dX6_crew_29 : decode cX6_crew 29 = .ok (.aload_n 0, 1) := dk_42 (dk_at dksX6_crew_1 5 rfl rfl)
theorem dX6_crew_30 : decode cX6_crew 30 = .ok (.iconst 1, 1) := dk_4 (dk_at dksX6_crew_1 6 rfl rfl)
theorem dX6_crew_31 : decode cX6_crew 31 = .ok (.iconst 4, 1) := dk_7 (dk_at dksX6_crew_1 7 rfl rfl)
theorem dX6_crew_32 : decode cX6_crew 32 = .ok (.invokevirtual 113, 3) := dk_182 0 113 (dk_at dksX6_crew_1 8 rfl rfl)
theorem dX6_crew_35 : decode cX6_crew 35 = .ok (.ifCond .eq 9, 3) := dk_153 0 9 (dk_at dksX6_crew_1 11 rfl rfl)
theorem dX6_crew_38 : decode cX6_crew 38 = .ok (.aload_n 0, 1) := dk_42 (dk_at dksX6_crew_1 14 rfl rfl)
theorem dX6_crew_39 : decode cX6_crew 39 = .ok (.iconst 2, 1) := dk_5 (dk_at dksX6_crew_1 15 rfl rfl)
theorem dX6_crew_40 : decode cX6_crew 40 = .ok (.invokevirtual 117, 3) := dk_182 0 117 (dk_at dksX6_crew_1 16 rfl rfl)
theorem dX6_crew_43 : decode cX6_crew 43 = .ok (.ireturn, 1) := dk_172 (dk_at dksX6_crew_1 19 rfl rfl)
theorem dX6_crew_44 : decode cX6_crew 44 = .ok (.aload_n 0, 1) := dk_42 (dk_at dksX6_crew_1 20 rfl rfl)
theorem dX6_crew_45 : decode cX6_crew 45 = .ok (.iload_n 2, 1) := dk_28 (dk_at dksX6_crew_1 21 rfl rfl)
theorem dX6_crew_46 : decode cX6_crew 46 = .ok (.iconst 0, 1) := dk_3 (dk_at dksX6_crew_1 22 rfl rfl)
theorem dX6_crew_47 : decode cX6_crew 47 = .ok (.iload_n 1, 1) := dk_27 (dk_at dksX6_crew_1 23 rfl rfl)
theorem dX6_crew_48 : decode cX6_crew 48 = .ok (.invokevirtual 149, 3) := dk_182 0 149 (dk_at dksX6_crew_2 0 rfl rfl)
theorem dX6_crew_51 : decode cX6_crew 51 = .ok (.aload_n 0, 1) := dk_42 (dk_at dksX6_crew_2 3 rfl rfl)
theorem dX6_crew_52 : decode cX6_crew 52 = .ok (.iload_n 2, 1) := dk_28 (dk_at dksX6_crew_2 4 rfl rfl)
theorem dX6_crew_53 : decode cX6_crew 53 = .ok (.iconst 1, 1) := dk_4 (dk_at dksX6_crew_2 5 rfl rfl)
theorem dX6_crew_54 : decode cX6_crew 54 = .ok (.iconst 0, 1) := dk_3 (dk_at dksX6_crew_2 6 rfl rfl)
theorem dX6_crew_55 : decode cX6_crew 55 = .ok (.invokevirtual 149, 3) := dk_182 0 149 (dk_at dksX6_crew_2 7 rfl rfl)
theorem dX6_crew_58 : decode cX6_crew 58 = .ok (.aload_n 0, 1) := dk_42 (dk_at dksX6_crew_2 10 rfl rfl)
theorem dX6_crew_59 : decode cX6_crew 59 = .ok (.iload_n 2, 1) := dk_28 (dk_at dksX6_crew_2 11 rfl rfl)
theorem dX6_crew_60 : decode cX6_crew 60 = .ok (.iconst 2, 1) := dk_5 (dk_at dksX6_crew_2 12 rfl rfl)
theorem dX6_crew_61 : decode cX6_crew 61 = .ok (.iconst 0, 1) := dk_3 (dk_at dksX6_crew_2 13 rfl rfl)
theorem dX6_crew_62 : decode cX6_crew 62 = .ok (.invokevirtual 149, 3) := dk_182 0 149 (dk_at dksX6_crew_2 14 rfl rfl)
theorem dX6_crew_65 : decode cX6_crew 65 = .ok (.aload_n 0, 1) := dk_42 (dk_at dksX6_crew_2 17 rfl rfl)
theorem dX6_crew_66 : decode cX6_crew 66 = .ok (.getfield 7, 3) := dk_180 0 7 (dk_at dksX6_crew_2 18 rfl rfl)
theorem dX6_crew_69 : decode cX6_crew 69 = .ok (.iconst 3, 1) := dk_6 (dk_at dksX6_crew_2 21 rfl rfl)
theorem dX6_crew_70 : decode cX6_crew 70 = .ok (.dup2, 1) := dk_92 (dk_at dksX6_crew_2 22 rfl rfl)
theorem dX6_crew_71 : decode cX6_crew 71 = .ok (.iaload, 1) := dk_46 (dk_at dksX6_crew_2 23 rfl rfl)
theorem dX6_crew_72 : decode cX6_crew 72 = .ok (.iconst 1, 1) := dk_4 (dk_at dksX6_crew_3 0 rfl rfl)
theorem dX6_crew_73 : decode cX6_crew 73 = .ok (.iadd, 1) := dk_96 (dk_at dksX6_crew_3 1 rfl rfl)
theorem dX6_crew_74 : decode cX6_crew 74 = .ok (.iastore, 1) := dk_79 (dk_at dksX6_crew_3 2 rfl rfl)
theorem dX6_crew_75 : decode cX6_crew 75 = .ok (.aload_n 0, 1) := dk_42 (dk_at dksX6_crew_3 3 rfl rfl)
theorem dX6_crew_76 : decode cX6_crew 76 = .ok (.iload_n 2, 1) := dk_28 (dk_at dksX6_crew_3 4 rfl rfl)
theorem dX6_crew_77 : decode cX6_crew 77 = .ok (.invokevirtual 101, 3) := dk_182 0 101 (dk_at dksX6_crew_3 5 rfl rfl)
theorem dX6_crew_80 : decode cX6_crew 80 = .ok (.ireturn, 1) := dk_172 (dk_at dksX6_crew_3 8 rfl rfl)
abbrev kX6_crew : KX := (cX6_crew, "TissueBalloonsModel", "crew", 3, some .int, [], 2)
abbrev cX6_lc : ByteArray := prog_14_method_17_code
def yX6_lc : MethodName := ⟨RX6, "lc", "(III)V"⟩
def dkwX6_lc_0 : List UInt8 := [42, 180, 0, 7, 17, 0, 192, 6, 27, 104, 96, 28, 96, 29, 79, 177]
abbrev dktX6_lc_0 : List UInt8 := dkwX6_lc_0 ++ []
theorem dksX6_lc_0 : cX6_lc.data.toList.drop 0 = dktX6_lc_0 := by decide +kernel
theorem dX6_lc_0 : decode cX6_lc 0 = .ok (.aload_n 0, 1) := dk_42 (dk_at dksX6_lc_0 0 rfl rfl)
theorem dX6_lc_1 : decode cX6_lc 1 = .ok (.getfield 7, 3) := dk_180 0 7 (dk_at dksX6_lc_0 1 rfl rfl)
theorem dX6_lc_4 : decode cX6_lc 4 = .ok (.sipush 192, 3) := dk_17 0 192 (dk_at dksX6_lc_0 4 rfl rfl)
theorem dX6_lc_7 : decode cX6_lc 7 = .ok (.iconst 3, 1) := dk_6 (dk_at dksX6_lc_0 7 rfl rfl)
theorem dX6_lc_8 : decode cX6_lc 8 = .ok (.iload_n 1, 1) := dk_27 (dk_at dksX6_lc_0 8 rfl rfl)
theorem dX6_lc_9 : decode cX6_lc 9 = .ok (.imul, 1) := dk_104 (dk_at dksX6_lc_0 9 rfl rfl)
theorem dX6_lc_10 : decode cX6_lc 10 = .ok (.iadd, 1) := dk_96 (dk_at dksX6_lc_0 10 rfl rfl)
theorem dX6_lc_11 : decode cX6_lc 11 = .ok (.iload_n 2, 1) := dk_28 (dk_at dksX6_lc_0 11 rfl rfl)
theorem dX6_lc_12 : decode cX6_lc 12 = .ok (.iadd, 1) := dk_96 (dk_at dksX6_lc_0 12 rfl rfl)
theorem dX6_lc_13 : decode cX6_lc 13 = .ok (.iload_n 3, 1) := dk_29 (dk_at dksX6_lc_0 13 rfl rfl)
theorem dX6_lc_14 : decode cX6_lc 14 = .ok (.iastore, 1) := dk_79 (dk_at dksX6_lc_0 14 rfl rfl)
theorem dX6_lc_15 : decode cX6_lc 15 = .ok (.return_, 1) := dk_177 (dk_at dksX6_lc_0 15 rfl rfl)
abbrev kX6_lc : KX := (cX6_lc, "TissueBalloonsModel", "lc", 4, none, [], 0)
abbrev cX6_crewOf : ByteArray := prog_14_method_43_code
def yX6_crewOf : MethodName := ⟨RX6, "crewOf", "(II)I"⟩
def dkwX6_crewOf_1 : List UInt8 := [184, 0, 83, 153, 0, 12, 42, 27, 28, 182, 0, 155, 167, 0, 8, 42, 5, 182, 0, 75, 172]
abbrev dktX6_crewOf_1 : List UInt8 := dkwX6_crewOf_1 ++ []
def dkwX6_crewOf_0 : List UInt8 := [42, 3, 181, 0, 25, 42, 27, 182, 0, 152, 154, 0, 9, 42, 4, 182, 0, 75, 172, 28, 3, 5]
abbrev dktX6_crewOf_0 : List UInt8 := dkwX6_crewOf_0 ++ dktX6_crewOf_1
theorem dksX6_crewOf_0 : cX6_crewOf.data.toList.drop 0 = dktX6_crewOf_0 := by decide +kernel
theorem dksX6_crewOf_1 : cX6_crewOf.data.toList.drop 22 = dktX6_crewOf_1 := dk_seg dksX6_crewOf_0 22 rfl rfl
theorem dX6_crewOf_0 : decode cX6_crewOf 0 = .ok (.aload_n 0, 1) := dk_42 (dk_at dksX6_crewOf_0 0 rfl rfl)
theorem dX6_crewOf_1 : decode cX6_crewOf 1 = .ok (.iconst 0, 1) := dk_3 (dk_at dksX6_crewOf_0 1 rfl rfl)
theorem dX6_crewOf_2 : decode cX6_crewOf 2 = .ok (.putfield 25, 3) := dk_181 0 25 (dk_at dksX6_crewOf_0 2 rfl rfl)
theorem dX6_crewOf_5 : decode cX6_crewOf 5 = .ok (.aload_n 0, 1) := dk_42 (dk_at dksX6_crewOf_0 5 rfl rfl)
theorem dX6_crewOf_6 : decode cX6_crewOf 6 = .ok (.iload_n 1, 1) := dk_27 (dk_at dksX6_crewOf_0 6 rfl rfl)
theorem dX6_crewOf_7 : decode cX6_crewOf 7 = .ok (.invokevirtual 152, 3) := dk_182 0 152 (dk_at dksX6_crewOf_0 7 rfl rfl)
theorem dX6_crewOf_10 : decode cX6_crewOf 10 = .ok (.ifCond .ne 9, 3) := dk_154 0 9 (dk_at dksX6_crewOf_0 10 rfl rfl)
theorem dX6_crewOf_13 : decode cX6_crewOf 13 = .ok (.aload_n 0, 1) := dk_42 (dk_at dksX6_crewOf_0 13 rfl rfl)
theorem dX6_crewOf_14 : decode cX6_crewOf 14 = .ok (.iconst 1, 1) := dk_4 (dk_at dksX6_crewOf_0 14 rfl rfl)
theorem dX6_crewOf_15 : decode cX6_crewOf 15 = .ok (.invokevirtual 75, 3) := dk_182 0 75 (dk_at dksX6_crewOf_0 15 rfl rfl)
theorem dX6_crewOf_18 : decode cX6_crewOf 18 = .ok (.ireturn, 1) := dk_172 (dk_at dksX6_crewOf_0 18 rfl rfl)
theorem dX6_crewOf_19 : decode cX6_crewOf 19 = .ok (.iload_n 2, 1) := dk_28 (dk_at dksX6_crewOf_0 19 rfl rfl)
theorem dX6_crewOf_20 : decode cX6_crewOf 20 = .ok (.iconst 0, 1) := dk_3 (dk_at dksX6_crewOf_0 20 rfl rfl)
theorem dX6_crewOf_21 : decode cX6_crewOf 21 = .ok (.iconst 2, 1) := dk_5 (dk_at dksX6_crewOf_0 21 rfl rfl)
theorem dX6_crewOf_22 : decode cX6_crewOf 22 = .ok (.invokestatic 83, 3) := dk_184 0 83 (dk_at dksX6_crewOf_1 0 rfl rfl)
theorem dX6_crewOf_25 : decode cX6_crewOf 25 = .ok (.ifCond .eq 12, 3) := dk_153 0 12 (dk_at dksX6_crewOf_1 3 rfl rfl)
theorem dX6_crewOf_28 : decode cX6_crewOf 28 = .ok (.aload_n 0, 1) := dk_42 (dk_at dksX6_crewOf_1 6 rfl rfl)
theorem dX6_crewOf_29 : decode cX6_crewOf 29 = .ok (.iload_n 1, 1) := dk_27 (dk_at dksX6_crewOf_1 7 rfl rfl)
theorem dX6_crewOf_30 : decode cX6_crewOf 30 = .ok (.iload_n 2, 1) := dk_28 (dk_at dksX6_crewOf_1 8 rfl rfl)
theorem dX6_crewOf_31 : decode cX6_crewOf 31 = .ok (.invokevirtual 155, 3) := dk_182 0 155 (dk_at dksX6_crewOf_1 9 rfl rfl)
theorem dX6_crewOf_34 : decode cX6_crewOf 34 = .ok (.goto 8, 3) := dk_167 0 8 (dk_at dksX6_crewOf_1 12 rfl rfl)
theorem dX6_crewOf_37 : decode cX6_crewOf 37 = .ok (.aload_n 0, 1) := dk_42 (dk_at dksX6_crewOf_1 15 rfl rfl)
theorem dX6_crewOf_38 : decode cX6_crewOf 38 = .ok (.iconst 2, 1) := dk_5 (dk_at dksX6_crewOf_1 16 rfl rfl)
theorem dX6_crewOf_39 : decode cX6_crewOf 39 = .ok (.invokevirtual 75, 3) := dk_182 0 75 (dk_at dksX6_crewOf_1 17 rfl rfl)
theorem dX6_crewOf_42 : decode cX6_crewOf 42 = .ok (.ireturn, 1) := dk_172 (dk_at dksX6_crewOf_1 20 rfl rfl)
abbrev kX6_crewOf : KX := (cX6_crewOf, "TissueBalloonsModel", "crewOf", 3, some .int, [], 2)
abbrev cX6_isCrew : ByteArray := prog_14_method_24_code
def yX6_isCrew : MethodName := ⟨RX6, "isCrew", "(I)Z"⟩
def dkwX6_isCrew_0 : List UInt8 := [27, 3, 42, 180, 0, 7, 6, 46, 4, 100, 184, 0, 83, 172]
abbrev dktX6_isCrew_0 : List UInt8 := dkwX6_isCrew_0 ++ []
theorem dksX6_isCrew_0 : cX6_isCrew.data.toList.drop 0 = dktX6_isCrew_0 := by decide +kernel
theorem dX6_isCrew_0 : decode cX6_isCrew 0 = .ok (.iload_n 1, 1) := dk_27 (dk_at dksX6_isCrew_0 0 rfl rfl)
theorem dX6_isCrew_1 : decode cX6_isCrew 1 = .ok (.iconst 0, 1) := dk_3 (dk_at dksX6_isCrew_0 1 rfl rfl)
theorem dX6_isCrew_2 : decode cX6_isCrew 2 = .ok (.aload_n 0, 1) := dk_42 (dk_at dksX6_isCrew_0 2 rfl rfl)
theorem dX6_isCrew_3 : decode cX6_isCrew 3 = .ok (.getfield 7, 3) := dk_180 0 7 (dk_at dksX6_isCrew_0 3 rfl rfl)
theorem dX6_isCrew_6 : decode cX6_isCrew 6 = .ok (.iconst 3, 1) := dk_6 (dk_at dksX6_isCrew_0 6 rfl rfl)
theorem dX6_isCrew_7 : decode cX6_isCrew 7 = .ok (.iaload, 1) := dk_46 (dk_at dksX6_isCrew_0 7 rfl rfl)
theorem dX6_isCrew_8 : decode cX6_isCrew 8 = .ok (.iconst 1, 1) := dk_4 (dk_at dksX6_isCrew_0 8 rfl rfl)
theorem dX6_isCrew_9 : decode cX6_isCrew 9 = .ok (.isub, 1) := dk_100 (dk_at dksX6_isCrew_0 9 rfl rfl)
theorem dX6_isCrew_10 : decode cX6_isCrew 10 = .ok (.invokestatic 83, 3) := dk_184 0 83 (dk_at dksX6_isCrew_0 10 rfl rfl)
theorem dX6_isCrew_13 : decode cX6_isCrew 13 = .ok (.ireturn, 1) := dk_172 (dk_at dksX6_isCrew_0 13 rfl rfl)
abbrev kX6_isCrew : KX := (cX6_isCrew, "TissueBalloonsModel", "isCrew", 2, some .boolean, [], 1)
abbrev cX6_cv : ByteArray := prog_14_method_16_code
def yX6_cv : MethodName := ⟨RX6, "cv", "(II)I"⟩
def dkwX6_cv_0 : List UInt8 := [42, 180, 0, 7, 17, 0, 192, 6, 27, 104, 96, 28, 96, 46, 172]
abbrev dktX6_cv_0 : List UInt8 := dkwX6_cv_0 ++ []
theorem dksX6_cv_0 : cX6_cv.data.toList.drop 0 = dktX6_cv_0 := by decide +kernel
theorem dX6_cv_0 : decode cX6_cv 0 = .ok (.aload_n 0, 1) := dk_42 (dk_at dksX6_cv_0 0 rfl rfl)
theorem dX6_cv_1 : decode cX6_cv 1 = .ok (.getfield 7, 3) := dk_180 0 7 (dk_at dksX6_cv_0 1 rfl rfl)
theorem dX6_cv_4 : decode cX6_cv 4 = .ok (.sipush 192, 3) := dk_17 0 192 (dk_at dksX6_cv_0 4 rfl rfl)
theorem dX6_cv_7 : decode cX6_cv 7 = .ok (.iconst 3, 1) := dk_6 (dk_at dksX6_cv_0 7 rfl rfl)
theorem dX6_cv_8 : decode cX6_cv 8 = .ok (.iload_n 1, 1) := dk_27 (dk_at dksX6_cv_0 8 rfl rfl)
theorem dX6_cv_9 : decode cX6_cv 9 = .ok (.imul, 1) := dk_104 (dk_at dksX6_cv_0 9 rfl rfl)
theorem dX6_cv_10 : decode cX6_cv 10 = .ok (.iadd, 1) := dk_96 (dk_at dksX6_cv_0 10 rfl rfl)
theorem dX6_cv_11 : decode cX6_cv 11 = .ok (.iload_n 2, 1) := dk_28 (dk_at dksX6_cv_0 11 rfl rfl)
theorem dX6_cv_12 : decode cX6_cv 12 = .ok (.iadd, 1) := dk_96 (dk_at dksX6_cv_0 12 rfl rfl)
theorem dX6_cv_13 : decode cX6_cv 13 = .ok (.iaload, 1) := dk_46 (dk_at dksX6_cv_0 13 rfl rfl)
theorem dX6_cv_14 : decode cX6_cv 14 = .ok (.ireturn, 1) := dk_172 (dk_at dksX6_cv_0 14 rfl rfl)
abbrev kX6_cv : KX := (cX6_cv, "TissueBalloonsModel", "cv", 3, some .int, [], 0)
abbrev cX6_launch : ByteArray := prog_14_method_46_code
def yX6_launch : MethodName := ⟨RX6, "launch", "(II)I"⟩
def dkwX6_launch_2 : List UInt8 := [28, 182, 0, 164, 182, 0, 101, 172]
abbrev dktX6_launch_2 : List UInt8 := dkwX6_launch_2 ++ []
def dkwX6_launch_1 : List UInt8 := [182, 0, 75, 172, 42, 27, 28, 182, 0, 161, 153, 0, 11, 42, 5, 182, 0, 117, 167, 0, 13, 42, 42, 27]
abbrev dktX6_launch_1 : List UInt8 := dkwX6_launch_1 ++ dktX6_launch_2
def dkwX6_launch_0 : List UInt8 := [42, 182, 0, 87, 42, 27, 182, 0, 158, 153, 0, 11, 42, 28, 182, 0, 152, 154, 0, 9, 42, 4]
abbrev dktX6_launch_0 : List UInt8 := dkwX6_launch_0 ++ dktX6_launch_1
theorem dksX6_launch_0 : cX6_launch.data.toList.drop 0 = dktX6_launch_0 := by decide +kernel
theorem dksX6_launch_1 : cX6_launch.data.toList.drop 22 = dktX6_launch_1 := dk_seg dksX6_launch_0 22 rfl rfl
theorem dksX6_launch_2 : cX6_launch.data.toList.drop 46 = dktX6_launch_2 := dk_seg dksX6_launch_1 24 rfl rfl
theorem dX6_launch_0 : decode cX6_launch 0 = .ok (.aload_n 0, 1) := dk_42 (dk_at dksX6_launch_0 0 rfl rfl)
theorem dX6_launch_1 : decode cX6_launch 1 = .ok (.invokevirtual 87, 3) := dk_182 0 87 (dk_at dksX6_launch_0 1 rfl rfl)
theorem dX6_launch_4 : decode cX6_launch 4 = .ok (.aload_n 0, 1) := dk_42 (dk_at dksX6_launch_0 4 rfl rfl)
theorem dX6_launch_5 : decode cX6_launch 5 = .ok (.iload_n 1, 1) := dk_27 (dk_at dksX6_launch_0 5 rfl rfl)
theorem dX6_launch_6 : decode cX6_launch 6 = .ok (.invokevirtual 158, 3) := dk_182 0 158 (dk_at dksX6_launch_0 6 rfl rfl)
theorem dX6_launch_9 : decode cX6_launch 9 = .ok (.ifCond .eq 11, 3) := dk_153 0 11 (dk_at dksX6_launch_0 9 rfl rfl)
theorem dX6_launch_12 : decode cX6_launch 12 = .ok (.aload_n 0, 1) := dk_42 (dk_at dksX6_launch_0 12 rfl rfl)
theorem dX6_launch_13 : decode cX6_launch 13 = .ok (.iload_n 2, 1) := dk_28 (dk_at dksX6_launch_0 13 rfl rfl)
theorem dX6_launch_14 : decode cX6_launch 14 = .ok (.invokevirtual 152, 3) := dk_182 0 152 (dk_at dksX6_launch_0 14 rfl rfl)
theorem dX6_launch_17 : decode cX6_launch 17 = .ok (.ifCond .ne 9, 3) := dk_154 0 9 (dk_at dksX6_launch_0 17 rfl rfl)
theorem dX6_launch_20 : decode cX6_launch 20 = .ok (.aload_n 0, 1) := dk_42 (dk_at dksX6_launch_0 20 rfl rfl)
theorem dX6_launch_21 : decode cX6_launch 21 = .ok (.iconst 1, 1) := dk_4 (dk_at dksX6_launch_0 21 rfl rfl)
theorem dX6_launch_22 : decode cX6_launch 22 = .ok (.invokevirtual 75, 3) := dk_182 0 75 (dk_at dksX6_launch_1 0 rfl rfl)
theorem dX6_launch_25 : decode cX6_launch 25 = .ok (.ireturn, 1) := dk_172 (dk_at dksX6_launch_1 3 rfl rfl)
theorem dX6_launch_26 : decode cX6_launch 26 = .ok (.aload_n 0, 1) := dk_42 (dk_at dksX6_launch_1 4 rfl rfl)
theorem dX6_launch_27 : decode cX6_launch 27 = .ok (.iload_n 1, 1) := dk_27 (dk_at dksX6_launch_1 5 rfl rfl)
theorem dX6_launch_28 : decode cX6_launch 28 = .ok (.iload_n 2, 1) := dk_28 (dk_at dksX6_launch_1 6 rfl rfl)
theorem dX6_launch_29 : decode cX6_launch 29 = .ok (.invokevirtual 161, 3) := dk_182 0 161 (dk_at dksX6_launch_1 7 rfl rfl)
theorem dX6_launch_32 : decode cX6_launch 32 = .ok (.ifCond .eq 11, 3) := dk_153 0 11 (dk_at dksX6_launch_1 10 rfl rfl)
theorem dX6_launch_35 : decode cX6_launch 35 = .ok (.aload_n 0, 1) := dk_42 (dk_at dksX6_launch_1 13 rfl rfl)
theorem dX6_launch_36 : decode cX6_launch 36 = .ok (.iconst 2, 1) := dk_5 (dk_at dksX6_launch_1 14 rfl rfl)
theorem dX6_launch_37 : decode cX6_launch 37 = .ok (.invokevirtual 117, 3) := dk_182 0 117 (dk_at dksX6_launch_1 15 rfl rfl)
theorem dX6_launch_40 : decode cX6_launch 40 = .ok (.goto 13, 3) := dk_167 0 13 (dk_at dksX6_launch_1 18 rfl rfl)
theorem dX6_launch_43 : decode cX6_launch 43 = .ok (.aload_n 0, 1) := dk_42 (dk_at dksX6_launch_1 21 rfl rfl)
theorem dX6_launch_44 : decode cX6_launch 44 = .ok (.aload_n 0, 1) := dk_42 (dk_at dksX6_launch_1 22 rfl rfl)
theorem dX6_launch_45 : decode cX6_launch 45 = .ok (.iload_n 1, 1) := dk_27 (dk_at dksX6_launch_1 23 rfl rfl)
theorem dX6_launch_46 : decode cX6_launch 46 = .ok (.iload_n 2, 1) := dk_28 (dk_at dksX6_launch_2 0 rfl rfl)
theorem dX6_launch_47 : decode cX6_launch 47 = .ok (.invokevirtual 164, 3) := dk_182 0 164 (dk_at dksX6_launch_2 1 rfl rfl)
theorem dX6_launch_50 : decode cX6_launch 50 = .ok (.invokevirtual 101, 3) := dk_182 0 101 (dk_at dksX6_launch_2 4 rfl rfl)
theorem dX6_launch_53 : decode cX6_launch 53 = .ok (.ireturn, 1) := dk_172 (dk_at dksX6_launch_2 7 rfl rfl)
abbrev kX6_launch : KX := (cX6_launch, "TissueBalloonsModel", "launch", 3, some .int, [], 2)
abbrev cX6_isBalloon : ByteArray := prog_14_method_23_code
def yX6_isBalloon : MethodName := ⟨RX6, "isBalloon", "(I)Z"⟩
def dkwX6_isBalloon_0 : List UInt8 := [27, 3, 42, 180, 0, 7, 5, 46, 4, 100, 184, 0, 83, 172]
abbrev dktX6_isBalloon_0 : List UInt8 := dkwX6_isBalloon_0 ++ []
theorem dksX6_isBalloon_0 : cX6_isBalloon.data.toList.drop 0 = dktX6_isBalloon_0 := by decide +kernel
theorem dX6_isBalloon_0 : decode cX6_isBalloon 0 = .ok (.iload_n 1, 1) := dk_27 (dk_at dksX6_isBalloon_0 0 rfl rfl)
theorem dX6_isBalloon_1 : decode cX6_isBalloon 1 = .ok (.iconst 0, 1) := dk_3 (dk_at dksX6_isBalloon_0 1 rfl rfl)
theorem dX6_isBalloon_2 : decode cX6_isBalloon 2 = .ok (.aload_n 0, 1) := dk_42 (dk_at dksX6_isBalloon_0 2 rfl rfl)
theorem dX6_isBalloon_3 : decode cX6_isBalloon 3 = .ok (.getfield 7, 3) := dk_180 0 7 (dk_at dksX6_isBalloon_0 3 rfl rfl)
theorem dX6_isBalloon_6 : decode cX6_isBalloon 6 = .ok (.iconst 2, 1) := dk_5 (dk_at dksX6_isBalloon_0 6 rfl rfl)
theorem dX6_isBalloon_7 : decode cX6_isBalloon 7 = .ok (.iaload, 1) := dk_46 (dk_at dksX6_isBalloon_0 7 rfl rfl)
theorem dX6_isBalloon_8 : decode cX6_isBalloon 8 = .ok (.iconst 1, 1) := dk_4 (dk_at dksX6_isBalloon_0 8 rfl rfl)
theorem dX6_isBalloon_9 : decode cX6_isBalloon 9 = .ok (.isub, 1) := dk_100 (dk_at dksX6_isBalloon_0 9 rfl rfl)
theorem dX6_isBalloon_10 : decode cX6_isBalloon 10 = .ok (.invokestatic 83, 3) := dk_184 0 83 (dk_at dksX6_isBalloon_0 10 rfl rfl)
theorem dX6_isBalloon_13 : decode cX6_isBalloon 13 = .ok (.ireturn, 1) := dk_172 (dk_at dksX6_isBalloon_0 13 rfl rfl)
abbrev kX6_isBalloon : KX := (cX6_isBalloon, "TissueBalloonsModel", "isBalloon", 2, some .boolean, [], 1)
abbrev cX6_isRefusedLaunch : ByteArray := prog_14_method_44_code
def yX6_isRefusedLaunch : MethodName := ⟨RX6, "isRefusedLaunch", "(II)Z"⟩
def dkwX6_isRefusedLaunch_3 : List UInt8 := [16, 8, 46, 182, 0, 113, 153, 0, 7, 4, 167, 0, 4, 3, 172]
abbrev dktX6_isRefusedLaunch_3 : List UInt8 := dkwX6_isRefusedLaunch_3 ++ []
def dkwX6_isRefusedLaunch_2 : List UInt8 := [46, 6, 159, 0, 15, 42, 180, 0, 7, 16, 8, 46, 16, 253, 160, 0, 22, 42, 8, 42, 180, 0, 7]
abbrev dktX6_isRefusedLaunch_2 : List UInt8 := dkwX6_isRefusedLaunch_2 ++ dktX6_isRefusedLaunch_3
def dkwX6_isRefusedLaunch_1 : List UInt8 := [182, 0, 155, 158, 0, 15, 42, 7, 42, 28, 4, 182, 0, 155, 182, 0, 113, 172, 42, 180, 0, 7, 16, 8]
abbrev dktX6_isRefusedLaunch_1 : List UInt8 := dkwX6_isRefusedLaunch_1 ++ dktX6_isRefusedLaunch_2
def dkwX6_isRefusedLaunch_0 : List UInt8 := [42, 27, 3, 182, 0, 140, 153, 0, 15, 42, 6, 42, 27, 3, 182, 0, 140, 182, 0, 113, 172, 42, 28, 4]
abbrev dktX6_isRefusedLaunch_0 : List UInt8 := dkwX6_isRefusedLaunch_0 ++ dktX6_isRefusedLaunch_1
theorem dksX6_isRefusedLaunch_0 : cX6_isRefusedLaunch.data.toList.drop 0 = dktX6_isRefusedLaunch_0 := by decide +kernel
theorem dksX6_isRefusedLaunch_1 : cX6_isRefusedLaunch.data.toList.drop 24 = dktX6_isRefusedLaunch_1 := dk_seg dksX6_isRefusedLaunch_0 24 rfl rfl
theorem dksX6_isRefusedLaunch_2 : cX6_isRefusedLaunch.data.toList.drop 48 = dktX6_isRefusedLaunch_2 := dk_seg dksX6_isRefusedLaunch_1 24 rfl rfl
theorem dksX6_isRefusedLaunch_3 : cX6_isRefusedLaunch.data.toList.drop 71 = dktX6_isRefusedLaunch_3 := dk_seg dksX6_isRefusedLaunch_2 23 rfl rfl
theorem dX6_isRefusedLaunch_0 : decode cX6_isRefusedLaunch 0 = .ok (.aload_n 0, 1) := dk_42 (dk_at dksX6_isRefusedLaunch_0 0 rfl rfl)
theorem dX6_isRefusedLaunch_1 : decode cX6_isRefusedLaunch 1 = .ok (.iload_n 1, 1) := dk_27 (dk_at dksX6_isRefusedLaunch_0 1 rfl rfl)
theorem dX6_isRefusedLaunch_2 : decode cX6_isRefusedLaunch 2 = .ok (.iconst 0, 1) := dk_3 (dk_at dksX6_isRefusedLaunch_0 2 rfl rfl)
theorem dX6_isRefusedLaunch_3 : decode cX6_isRefusedLaunch 3 = .ok (.invokevirtual 140, 3) := dk_182 0 140 (dk_at dksX6_isRefusedLaunch_0 3 rfl rfl)
theorem dX6_isRefusedLaunch_6 : decode cX6_isRefusedLaunch 6 = .ok (.ifCond .eq 15, 3) := dk_153 0 15 (dk_at dksX6_isRefusedLaunch_0 6 rfl rfl)
theorem dX6_isRefusedLaunch_9 : decode cX6_isRefusedLaunch 9 = .ok (.aload_n 0, 1) := dk_42 (dk_at dksX6_isRefusedLaunch_0 9 rfl rfl)
theorem dX6_isRefusedLaunch_10 : decode cX6_isRefusedLaunch 10 = .ok (.iconst 3, 1) := dk_6 (dk_at dksX6_isRefusedLaunch_0 10 rfl rfl)
theorem dX6_isRefusedLaunch_11 : decode cX6_isRefusedLaunch 11 = .ok (.aload_n 0, 1) := dk_42 (dk_at dksX6_isRefusedLaunch_0 11 rfl rfl)
theorem dX6_isRefusedLaunch_12 : decode cX6_isRefusedLaunch 12 = .ok (.iload_n 1, 1) := dk_27 (dk_at dksX6_isRefusedLaunch_0 12 rfl rfl)
theorem dX6_isRefusedLaunch_13 : decode cX6_isRefusedLaunch 13 = .ok (.iconst 0, 1) := dk_3 (dk_at dksX6_isRefusedLaunch_0 13 rfl rfl)
theorem dX6_isRefusedLaunch_14 : decode cX6_isRefusedLaunch 14 = .ok (.invokevirtual 140, 3) := dk_182 0 140 (dk_at dksX6_isRefusedLaunch_0 14 rfl rfl)
theorem dX6_isRefusedLaunch_17 : decode cX6_isRefusedLaunch 17 = .ok (.invokevirtual 113, 3) := dk_182 0 113 (dk_at dksX6_isRefusedLaunch_0 17 rfl rfl)
theorem dX6_isRefusedLaunch_20 : decode cX6_isRefusedLaunch 20 = .ok (.ireturn, 1) := dk_172 (dk_at dksX6_isRefusedLaunch_0 20 rfl rfl)
theorem dX6_isRefusedLaunch_21 : decode cX6_isRefusedLaunch 21 = .ok (.aload_n 0, 1) := dk_42 (dk_at dksX6_isRefusedLaunch_0 21 rfl rfl)
theorem dX6_isRefusedLaunch_22 : decode cX6_isRefusedLaunch 22 = .ok (.iload_n 2, 1) := dk_28 (dk_at dksX6_isRefusedLaunch_0 22 rfl rfl)
theorem dX6_isRefusedLaunch_23 : decode cX6_isRefusedLaunch 23 = .ok (.iconst 1, 1) := dk_4 (dk_at dksX6_isRefusedLaunch_0 23 rfl rfl)
theorem dX6_isRefusedLaunch_24 : decode cX6_isRefusedLaunch 24 = .ok (.invokevirtual 155, 3) := dk_182 0 155 (dk_at dksX6_isRefusedLaunch_1 0 rfl rfl)
theorem dX6_isRefusedLaunch_27 : decode cX6_isRefusedLaunch 27 = .ok (.ifCond .le 15, 3) := dk_158 0 15 (dk_at dksX6_isRefusedLaunch_1 3 rfl rfl)
theorem dX6_isRefusedLaunch_30 : decode cX6_isRefusedLaunch 30 = .ok (.aload_n 0, 1) := dk_42 (dk_at dksX6_isRefusedLaunch_1 6 rfl rfl)
theorem dX6_isRefusedLaunch_31 : decode cX6_isRefusedLaunch 31 = .ok (.iconst 4, 1) := dk_7 (dk_at dksX6_isRefusedLaunch_1 7 rfl rfl)
theorem dX6_isRefusedLaunch_32 : decode cX6_isRefusedLaunch 32 = .ok (.aload_n 0, 1) := dk_42 (dk_at dksX6_isRefusedLaunch_1 8 rfl rfl)
theorem dX6_isRefusedLaunch_33 : decode cX6_isRefusedLaunch 33 = .ok (.iload_n 2, 1) := dk_28 (dk_at dksX6_isRefusedLaunch_1 9 rfl rfl)
theorem dX6_isRefusedLaunch_34 : decode cX6_isRefusedLaunch 34 = .ok (.iconst 1, 1) := dk_4 (dk_at dksX6_isRefusedLaunch_1 10 rfl rfl)
theorem dX6_isRefusedLaunch_35 : decode cX6_isRefusedLaunch 35 = .ok (.invokevirtual 155, 3) := dk_182 0 155 (dk_at dksX6_isRefusedLaunch_1 11 rfl rfl)
theorem dX6_isRefusedLaunch_38 : decode cX6_isRefusedLaunch 38 = .ok (.invokevirtual 113, 3) := dk_182 0 113 (dk_at dksX6_isRefusedLaunch_1 14 rfl rfl)
theorem dX6_isRefusedLaunch_41 : decode cX6_isRefusedLaunch 41 = .ok (.ireturn, 1) := dk_172 (dk_at dksX6_isRefusedLaunch_1 17 rfl rfl)
theorem dX6_isRefusedLaunch_42 : decode cX6_isRefusedLaunch 42 = .ok (.aload_n 0, 1) := dk_42 (dk_at dksX6_isRefusedLaunch_1 18 rfl rfl)
theorem dX6_isRefusedLaunch_43 : decode cX6_isRefusedLaunch 43 = .ok (.getfield 7, 3) := dk_180 0 7 (dk_at dksX6_isRefusedLaunch_1 19 rfl rfl)
theorem dX6_isRefusedLaunch_46 : decode cX6_isRefusedLaunch 46 = .ok (.bipush 8, 2) := dk_16 8 (dk_at dksX6_isRefusedLaunch_1 22 rfl rfl)
theorem dX6_isRefusedLaunch_48 : decode cX6_isRefusedLaunch 48 = .ok (.iaload, 1) := dk_46 (dk_at dksX6_isRefusedLaunch_2 0 rfl rfl)
theorem dX6_isRefusedLaunch_49 : decode cX6_isRefusedLaunch 49 = .ok (.iconst 3, 1) := dk_6 (dk_at dksX6_isRefusedLaunch_2 1 rfl rfl)
theorem dX6_isRefusedLaunch_50 : decode cX6_isRefusedLaunch 50 = .ok (.if_icmp .eq 15, 3) := dk_159 0 15 (dk_at dksX6_isRefusedLaunch_2 2 rfl rfl)
theorem dX6_isRefusedLaunch_53 : decode cX6_isRefusedLaunch 53 = .ok (.aload_n 0, 1) := dk_42 (dk_at dksX6_isRefusedLaunch_2 5 rfl rfl)
theorem dX6_isRefusedLaunch_54 : decode cX6_isRefusedLaunch 54 = .ok (.getfield 7, 3) := dk_180 0 7 (dk_at dksX6_isRefusedLaunch_2 6 rfl rfl)
theorem dX6_isRefusedLaunch_57 : decode cX6_isRefusedLaunch 57 = .ok (.bipush 8, 2) := dk_16 8 (dk_at dksX6_isRefusedLaunch_2 9 rfl rfl)
theorem dX6_isRefusedLaunch_59 : decode cX6_isRefusedLaunch 59 = .ok (.iaload, 1) := dk_46 (dk_at dksX6_isRefusedLaunch_2 11 rfl rfl)
theorem dX6_isRefusedLaunch_60 : decode cX6_isRefusedLaunch 60 = .ok (.bipush (-3), 2) := dk_16 253 (dk_at dksX6_isRefusedLaunch_2 12 rfl rfl)
theorem dX6_isRefusedLaunch_62 : decode cX6_isRefusedLaunch 62 = .ok (.if_icmp .ne 22, 3) := dk_160 0 22 (dk_at dksX6_isRefusedLaunch_2 14 rfl rfl)
theorem dX6_isRefusedLaunch_65 : decode cX6_isRefusedLaunch 65 = .ok (.aload_n 0, 1) := dk_42 (dk_at dksX6_isRefusedLaunch_2 17 rfl rfl)
theorem dX6_isRefusedLaunch_66 : decode cX6_isRefusedLaunch 66 = .ok (.iconst 5, 1) := dk_8 (dk_at dksX6_isRefusedLaunch_2 18 rfl rfl)
theorem dX6_isRefusedLaunch_67 : decode cX6_isRefusedLaunch 67 = .ok (.aload_n 0, 1) := dk_42 (dk_at dksX6_isRefusedLaunch_2 19 rfl rfl)
theorem dX6_isRefusedLaunch_68 : decode cX6_isRefusedLaunch 68 = .ok (.getfield 7, 3) := dk_180 0 7 (dk_at dksX6_isRefusedLaunch_2 20 rfl rfl)
theorem dX6_isRefusedLaunch_71 : decode cX6_isRefusedLaunch 71 = .ok (.bipush 8, 2) := dk_16 8 (dk_at dksX6_isRefusedLaunch_3 0 rfl rfl)
theorem dX6_isRefusedLaunch_73 : decode cX6_isRefusedLaunch 73 = .ok (.iaload, 1) := dk_46 (dk_at dksX6_isRefusedLaunch_3 2 rfl rfl)
theorem dX6_isRefusedLaunch_74 : decode cX6_isRefusedLaunch 74 = .ok (.invokevirtual 113, 3) := dk_182 0 113 (dk_at dksX6_isRefusedLaunch_3 3 rfl rfl)
theorem dX6_isRefusedLaunch_77 : decode cX6_isRefusedLaunch 77 = .ok (.ifCond .eq 7, 3) := dk_153 0 7 (dk_at dksX6_isRefusedLaunch_3 6 rfl rfl)
theorem dX6_isRefusedLaunch_80 : decode cX6_isRefusedLaunch 80 = .ok (.iconst 1, 1) := dk_4 (dk_at dksX6_isRefusedLaunch_3 9 rfl rfl)
theorem dX6_isRefusedLaunch_81 : decode cX6_isRefusedLaunch 81 = .ok (.goto 4, 3) := dk_167 0 4 (dk_at dksX6_isRefusedLaunch_3 10 rfl rfl)
theorem dX6_isRefusedLaunch_84 : decode cX6_isRefusedLaunch 84 = .ok (.iconst 0, 1) := dk_3 (dk_at dksX6_isRefusedLaunch_3 13 rfl rfl)
theorem dX6_isRefusedLaunch_85 : decode cX6_isRefusedLaunch 85 = .ok (.ireturn, 1) := dk_172 (dk_at dksX6_isRefusedLaunch_3 14 rfl rfl)
abbrev kX6_isRefusedLaunch : KX := (cX6_isRefusedLaunch, "TissueBalloonsModel", "isRefusedLaunch", 3, some .boolean, [], 1)
abbrev cX6_launches : ByteArray := prog_14_method_45_code
def yX6_launches : MethodName := ⟨RX6, "launches", "(II)I"⟩
def dkwX6_launches_2 : List UInt8 := [42, 180, 0, 7, 16, 6, 92, 46, 4, 96, 79, 42, 28, 3, 182, 0, 155, 172]
abbrev dktX6_launches_2 : List UInt8 := dkwX6_launches_2 ++ []
def dkwX6_launches_1 : List UInt8 := [182, 0, 146, 42, 28, 4, 7, 182, 0, 149, 42, 28, 5, 42, 28, 5, 182, 0, 155, 4, 96, 182, 0, 149]
abbrev dktX6_launches_1 : List UInt8 := dkwX6_launches_1 ++ dktX6_launches_2
def dkwX6_launches_0 : List UInt8 := [42, 27, 3, 4, 182, 0, 146, 42, 27, 7, 3, 182, 0, 146, 42, 27, 8, 42, 28, 3, 182, 0, 155]
abbrev dktX6_launches_0 : List UInt8 := dkwX6_launches_0 ++ dktX6_launches_1
theorem dksX6_launches_0 : cX6_launches.data.toList.drop 0 = dktX6_launches_0 := by decide +kernel
theorem dksX6_launches_1 : cX6_launches.data.toList.drop 23 = dktX6_launches_1 := dk_seg dksX6_launches_0 23 rfl rfl
theorem dksX6_launches_2 : cX6_launches.data.toList.drop 47 = dktX6_launches_2 := dk_seg dksX6_launches_1 24 rfl rfl
theorem dX6_launches_0 : decode cX6_launches 0 = .ok (.aload_n 0, 1) := dk_42 (dk_at dksX6_launches_0 0 rfl rfl)
theorem dX6_launches_1 : decode cX6_launches 1 = .ok (.iload_n 1, 1) := dk_27 (dk_at dksX6_launches_0 1 rfl rfl)
theorem dX6_launches_2 : decode cX6_launches 2 = .ok (.iconst 0, 1) := dk_3 (dk_at dksX6_launches_0 2 rfl rfl)
theorem dX6_launches_3 : decode cX6_launches 3 = .ok (.iconst 1, 1) := dk_4 (dk_at dksX6_launches_0 3 rfl rfl)
theorem dX6_launches_4 : decode cX6_launches 4 = .ok (.invokevirtual 146, 3) := dk_182 0 146 (dk_at dksX6_launches_0 4 rfl rfl)
theorem dX6_launches_7 : decode cX6_launches 7 = .ok (.aload_n 0, 1) := dk_42 (dk_at dksX6_launches_0 7 rfl rfl)
theorem dX6_launches_8 : decode cX6_launches 8 = .ok (.iload_n 1, 1) := dk_27 (dk_at dksX6_launches_0 8 rfl rfl)
theorem dX6_launches_9 : decode cX6_launches 9 = .ok (.iconst 4, 1) := dk_7 (dk_at dksX6_launches_0 9 rfl rfl)
theorem dX6_launches_10 : decode cX6_launches 10 = .ok (.iconst 0, 1) := dk_3 (dk_at dksX6_launches_0 10 rfl rfl)
theorem dX6_launches_11 : decode cX6_launches 11 = .ok (.invokevirtual 146, 3) := dk_182 0 146 (dk_at dksX6_launches_0 11 rfl rfl)
theorem dX6_launches_14 : decode cX6_launches 14 = .ok (.aload_n 0, 1) := dk_42 (dk_at dksX6_launches_0 14 rfl rfl)
theorem dX6_launches_15 : decode cX6_launches 15 = .ok (.iload_n 1, 1) := dk_27 (dk_at dksX6_launches_0 15 rfl rfl)
theorem dX6_launches_16 : decode cX6_launches 16 = .ok (.iconst 5, 1) := dk_8 (dk_at dksX6_launches_0 16 rfl rfl)
theorem dX6_launches_17 : decode cX6_launches 17 = .ok (.aload_n 0, 1) := dk_42 (dk_at dksX6_launches_0 17 rfl rfl)
theorem dX6_launches_18 : decode cX6_launches 18 = .ok (.iload_n 2, 1) := dk_28 (dk_at dksX6_launches_0 18 rfl rfl)
theorem dX6_launches_19 : decode cX6_launches 19 = .ok (.iconst 0, 1) := dk_3 (dk_at dksX6_launches_0 19 rfl rfl)
theorem dX6_launches_20 : decode cX6_launches 20 = .ok (.invokevirtual 155, 3) := dk_182 0 155 (dk_at dksX6_launches_0 20 rfl rfl)
theorem dX6_launches_23 : decode cX6_launches 23 = .ok (.invokevirtual 146, 3) := dk_182 0 146 (dk_at dksX6_launches_1 0 rfl rfl)
theorem dX6_launches_26 : decode cX6_launches 26 = .ok (.aload_n 0, 1) := dk_42 (dk_at dksX6_launches_1 3 rfl rfl)
theorem dX6_launches_27 : decode cX6_launches 27 = .ok (.iload_n 2, 1) := dk_28 (dk_at dksX6_launches_1 4 rfl rfl)
theorem dX6_launches_28 : decode cX6_launches 28 = .ok (.iconst 1, 1) := dk_4 (dk_at dksX6_launches_1 5 rfl rfl)
theorem dX6_launches_29 : decode cX6_launches 29 = .ok (.iconst 4, 1) := dk_7 (dk_at dksX6_launches_1 6 rfl rfl)
theorem dX6_launches_30 : decode cX6_launches 30 = .ok (.invokevirtual 149, 3) := dk_182 0 149 (dk_at dksX6_launches_1 7 rfl rfl)
theorem dX6_launches_33 : decode cX6_launches 33 = .ok (.aload_n 0, 1) := dk_42 (dk_at dksX6_launches_1 10 rfl rfl)
theorem dX6_launches_34 : decode cX6_launches 34 = .ok (.iload_n 2, 1) := dk_28 (dk_at dksX6_launches_1 11 rfl rfl)
theorem dX6_launches_35 : decode cX6_launches 35 = .ok (.iconst 2, 1) := dk_5 (dk_at dksX6_launches_1 12 rfl rfl)
theorem dX6_launches_36 : decode cX6_launches 36 = .ok (.aload_n 0, 1) := dk_42 (dk_at dksX6_launches_1 13 rfl rfl)
theorem dX6_launches_37 : decode cX6_launches 37 = .ok (.iload_n 2, 1) := dk_28 (dk_at dksX6_launches_1 14 rfl rfl)
theorem dX6_launches_38 : decode cX6_launches 38 = .ok (.iconst 2, 1) := dk_5 (dk_at dksX6_launches_1 15 rfl rfl)
theorem dX6_launches_39 : decode cX6_launches 39 = .ok (.invokevirtual 155, 3) := dk_182 0 155 (dk_at dksX6_launches_1 16 rfl rfl)
theorem dX6_launches_42 : decode cX6_launches 42 = .ok (.iconst 1, 1) := dk_4 (dk_at dksX6_launches_1 19 rfl rfl)
theorem dX6_launches_43 : decode cX6_launches 43 = .ok (.iadd, 1) := dk_96 (dk_at dksX6_launches_1 20 rfl rfl)
theorem dX6_launches_44 : decode cX6_launches 44 = .ok (.invokevirtual 149, 3) := dk_182 0 149 (dk_at dksX6_launches_1 21 rfl rfl)
theorem dX6_launches_47 : decode cX6_launches 47 = .ok (.aload_n 0, 1) := dk_42 (dk_at dksX6_launches_2 0 rfl rfl)
theorem dX6_launches_48 : decode cX6_launches 48 = .ok (.getfield 7, 3) := dk_180 0 7 (dk_at dksX6_launches_2 1 rfl rfl)
theorem dX6_launches_51 : decode cX6_launches 51 = .ok (.bipush 6, 2) := dk_16 6 (dk_at dksX6_launches_2 4 rfl rfl)
theorem dX6_launches_53 : decode cX6_launches 53 = .ok (.dup2, 1) := dk_92 (dk_at dksX6_launches_2 6 rfl rfl)
theorem dX6_launches_54 : decode cX6_launches 54 = .ok (.iaload, 1) := dk_46 (dk_at dksX6_launches_2 7 rfl rfl)
theorem dX6_launches_55 : decode cX6_launches 55 = .ok (.iconst 1, 1) := dk_4 (dk_at dksX6_launches_2 8 rfl rfl)
theorem dX6_launches_56 : decode cX6_launches 56 = .ok (.iadd, 1) := dk_96 (dk_at dksX6_launches_2 9 rfl rfl)
theorem dX6_launches_57 : decode cX6_launches 57 = .ok (.iastore, 1) := dk_79 (dk_at dksX6_launches_2 10 rfl rfl)
theorem dX6_launches_58 : decode cX6_launches 58 = .ok (.aload_n 0, 1) := dk_42 (dk_at dksX6_launches_2 11 rfl rfl)
theorem dX6_launches_59 : decode cX6_launches 59 = .ok (.iload_n 2, 1) := dk_28 (dk_at dksX6_launches_2 12 rfl rfl)
theorem dX6_launches_60 : decode cX6_launches 60 = .ok (.iconst 0, 1) := dk_3 (dk_at dksX6_launches_2 13 rfl rfl)
theorem dX6_launches_61 : decode cX6_launches 61 = .ok (.invokevirtual 155, 3) := dk_182 0 155 (dk_at dksX6_launches_2 14 rfl rfl)
theorem dX6_launches_64 : decode cX6_launches 64 = .ok (.ireturn, 1) := dk_172 (dk_at dksX6_launches_2 17 rfl rfl)
abbrev kX6_launches : KX := (cX6_launches, "TissueBalloonsModel", "launches", 3, some .int, [], 1)
abbrev cX6_plan : ByteArray := prog_14_method_52_code
def yX6_plan : MethodName := ⟨RX6, "plan", "(III)I"⟩
def dkwX6_plan_3 : List UInt8 := [182, 0, 101, 172]
abbrev dktX6_plan_3 : List UInt8 := dkwX6_plan_3 ++ []
def dkwX6_plan_2 : List UInt8 := [182, 0, 180, 153, 0, 11, 42, 6, 182, 0, 117, 167, 0, 14, 42, 42, 27, 28, 29, 182, 0, 183]
abbrev dktX6_plan_2 : List UInt8 := dkwX6_plan_2 ++ dktX6_plan_3
def dkwX6_plan_1 : List UInt8 := [182, 0, 75, 172, 29, 3, 17, 39, 15, 184, 0, 83, 154, 0, 9, 42, 5, 182, 0, 75, 172, 42, 27, 29]
abbrev dktX6_plan_1 : List UInt8 := dkwX6_plan_1 ++ dktX6_plan_2
def dkwX6_plan_0 : List UInt8 := [42, 182, 0, 87, 42, 27, 182, 0, 158, 153, 0, 11, 42, 28, 182, 0, 152, 154, 0, 9, 42, 4]
abbrev dktX6_plan_0 : List UInt8 := dkwX6_plan_0 ++ dktX6_plan_1
theorem dksX6_plan_0 : cX6_plan.data.toList.drop 0 = dktX6_plan_0 := by decide +kernel
theorem dksX6_plan_1 : cX6_plan.data.toList.drop 22 = dktX6_plan_1 := dk_seg dksX6_plan_0 22 rfl rfl
theorem dksX6_plan_2 : cX6_plan.data.toList.drop 46 = dktX6_plan_2 := dk_seg dksX6_plan_1 24 rfl rfl
theorem dksX6_plan_3 : cX6_plan.data.toList.drop 68 = dktX6_plan_3 := dk_seg dksX6_plan_2 22 rfl rfl
theorem dX6_plan_0 : decode cX6_plan 0 = .ok (.aload_n 0, 1) := dk_42 (dk_at dksX6_plan_0 0 rfl rfl)
theorem dX6_plan_1 : decode cX6_plan 1 = .ok (.invokevirtual 87, 3) := dk_182 0 87 (dk_at dksX6_plan_0 1 rfl rfl)
theorem dX6_plan_4 : decode cX6_plan 4 = .ok (.aload_n 0, 1) := dk_42 (dk_at dksX6_plan_0 4 rfl rfl)
theorem dX6_plan_5 : decode cX6_plan 5 = .ok (.iload_n 1, 1) := dk_27 (dk_at dksX6_plan_0 5 rfl rfl)
theorem dX6_plan_6 : decode cX6_plan 6 = .ok (.invokevirtual 158, 3) := dk_182 0 158 (dk_at dksX6_plan_0 6 rfl rfl)
theorem dX6_plan_9 : decode cX6_plan 9 = .ok (.ifCond .eq 11, 3) := dk_153 0 11 (dk_at dksX6_plan_0 9 rfl rfl)
theorem dX6_plan_12 : decode cX6_plan 12 = .ok (.aload_n 0, 1) := dk_42 (dk_at dksX6_plan_0 12 rfl rfl)
theorem dX6_plan_13 : decode cX6_plan 13 = .ok (.iload_n 2, 1) := dk_28 (dk_at dksX6_plan_0 13 rfl rfl)
theorem dX6_plan_14 : decode cX6_plan 14 = .ok (.invokevirtual 152, 3) := dk_182 0 152 (dk_at dksX6_plan_0 14 rfl rfl)
theorem dX6_plan_17 : decode cX6_plan 17 = .ok (.ifCond .ne 9, 3) := dk_154 0 9 (dk_at dksX6_plan_0 17 rfl rfl)
theorem dX6_plan_20 : decode cX6_plan 20 = .ok (.aload_n 0, 1) := dk_42 (dk_at dksX6_plan_0 20 rfl rfl)
theorem dX6_plan_21 : decode cX6_plan 21 = .ok (.iconst 1, 1) := dk_4 (dk_at dksX6_plan_0 21 rfl rfl)
theorem dX6_plan_22 : decode cX6_plan 22 = .ok (.invokevirtual 75, 3) := dk_182 0 75 (dk_at dksX6_plan_1 0 rfl rfl)
theorem dX6_plan_25 : decode cX6_plan 25 = .ok (.ireturn, 1) := dk_172 (dk_at dksX6_plan_1 3 rfl rfl)
theorem dX6_plan_26 : decode cX6_plan 26 = .ok (.iload_n 3, 1) := dk_29 (dk_at dksX6_plan_1 4 rfl rfl)
theorem dX6_plan_27 : decode cX6_plan 27 = .ok (.iconst 0, 1) := dk_3 (dk_at dksX6_plan_1 5 rfl rfl)
theorem dX6_plan_28 : decode cX6_plan 28 = .ok (.sipush 9999, 3) := dk_17 39 15 (dk_at dksX6_plan_1 6 rfl rfl)
theorem dX6_plan_31 : decode cX6_plan 31 = .ok (.invokestatic 83, 3) := dk_184 0 83 (dk_at dksX6_plan_1 9 rfl rfl)
theorem dX6_plan_34 : decode cX6_plan 34 = .ok (.ifCond .ne 9, 3) := dk_154 0 9 (dk_at dksX6_plan_1 12 rfl rfl)
theorem dX6_plan_37 : decode cX6_plan 37 = .ok (.aload_n 0, 1) := dk_42 (dk_at dksX6_plan_1 15 rfl rfl)
theorem dX6_plan_38 : decode cX6_plan 38 = .ok (.iconst 2, 1) := dk_5 (dk_at dksX6_plan_1 16 rfl rfl)
theorem dX6_plan_39 : decode cX6_plan 39 = .ok (.invokevirtual 75, 3) := dk_182 0 75 (dk_at dksX6_plan_1 17 rfl rfl)
theorem dX6_plan_42 : decode cX6_plan 42 = .ok (.ireturn, 1) := dk_172 (dk_at dksX6_plan_1 20 rfl rfl)
theorem dX6_plan_43 : decode cX6_plan 43 = .ok (.aload_n 0, 1) := dk_42 (dk_at dksX6_plan_1 21 rfl rfl)
theorem dX6_plan_44 : decode cX6_plan 44 = .ok (.iload_n 1, 1) := dk_27 (dk_at dksX6_plan_1 22 rfl rfl)
theorem dX6_plan_45 : decode cX6_plan 45 = .ok (.iload_n 3, 1) := dk_29 (dk_at dksX6_plan_1 23 rfl rfl)
theorem dX6_plan_46 : decode cX6_plan 46 = .ok (.invokevirtual 180, 3) := dk_182 0 180 (dk_at dksX6_plan_2 0 rfl rfl)
theorem dX6_plan_49 : decode cX6_plan 49 = .ok (.ifCond .eq 11, 3) := dk_153 0 11 (dk_at dksX6_plan_2 3 rfl rfl)
theorem dX6_plan_52 : decode cX6_plan 52 = .ok (.aload_n 0, 1) := dk_42 (dk_at dksX6_plan_2 6 rfl rfl)
theorem dX6_plan_53 : decode cX6_plan 53 = .ok (.iconst 3, 1) := dk_6 (dk_at dksX6_plan_2 7 rfl rfl)
theorem dX6_plan_54 : decode cX6_plan 54 = .ok (.invokevirtual 117, 3) := dk_182 0 117 (dk_at dksX6_plan_2 8 rfl rfl)
theorem dX6_plan_57 : decode cX6_plan 57 = .ok (.goto 14, 3) := dk_167 0 14 (dk_at dksX6_plan_2 11 rfl rfl)
theorem dX6_plan_60 : decode cX6_plan 60 = .ok (.aload_n 0, 1) := dk_42 (dk_at dksX6_plan_2 14 rfl rfl)
theorem dX6_plan_61 : decode cX6_plan 61 = .ok (.aload_n 0, 1) := dk_42 (dk_at dksX6_plan_2 15 rfl rfl)
theorem dX6_plan_62 : decode cX6_plan 62 = .ok (.iload_n 1, 1) := dk_27 (dk_at dksX6_plan_2 16 rfl rfl)
theorem dX6_plan_63 : decode cX6_plan 63 = .ok (.iload_n 2, 1) := dk_28 (dk_at dksX6_plan_2 17 rfl rfl)
theorem dX6_plan_64 : decode cX6_plan 64 = .ok (.iload_n 3, 1) := dk_29 (dk_at dksX6_plan_2 18 rfl rfl)
theorem dX6_plan_65 : decode cX6_plan 65 = .ok (.invokevirtual 183, 3) := dk_182 0 183 (dk_at dksX6_plan_2 19 rfl rfl)
theorem dX6_plan_68 : decode cX6_plan 68 = .ok (.invokevirtual 101, 3) := dk_182 0 101 (dk_at dksX6_plan_3 0 rfl rfl)
theorem dX6_plan_71 : decode cX6_plan 71 = .ok (.ireturn, 1) := dk_172 (dk_at dksX6_plan_3 3 rfl rfl)
abbrev kX6_plan : KX := (cX6_plan, "TissueBalloonsModel", "plan", 4, some .int, [], 3)
abbrev cX6_isRefusedPlan : ByteArray := prog_14_method_50_code
def yX6_isRefusedPlan : MethodName := ⟨RX6, "isRefusedPlan", "(II)Z"⟩
def dkwX6_isRefusedPlan_4 : List UInt8 := [167, 0, 4, 3, 172]
abbrev dktX6_isRefusedPlan_4 : List UInt8 := dkwX6_isRefusedPlan_4 ++ []
def dkwX6_isRefusedPlan_3 : List UInt8 := [180, 0, 7, 3, 46, 162, 0, 22, 42, 16, 7, 42, 180, 0, 7, 3, 46, 182, 0, 113, 153, 0, 7, 4]
abbrev dktX6_isRefusedPlan_3 : List UInt8 := dkwX6_isRefusedPlan_3 ++ dktX6_isRefusedPlan_4
def dkwX6_isRefusedPlan_2 : List UInt8 := [155, 0, 20, 42, 16, 6, 42, 42, 27, 182, 0, 177, 5, 182, 0, 167, 182, 0, 113, 172, 28, 42]
abbrev dktX6_isRefusedPlan_2 : List UInt8 := dkwX6_isRefusedPlan_2 ++ dktX6_isRefusedPlan_3
def dkwX6_isRefusedPlan_1 : List UInt8 := [182, 0, 140, 153, 0, 15, 42, 6, 42, 27, 3, 182, 0, 140, 182, 0, 113, 172, 42, 27, 182, 0, 177]
abbrev dktX6_isRefusedPlan_1 : List UInt8 := dkwX6_isRefusedPlan_1 ++ dktX6_isRefusedPlan_2
def dkwX6_isRefusedPlan_0 : List UInt8 := [42, 180, 0, 7, 7, 46, 16, 6, 160, 0, 11, 42, 4, 16, 6, 182, 0, 113, 172, 42, 27, 3]
abbrev dktX6_isRefusedPlan_0 : List UInt8 := dkwX6_isRefusedPlan_0 ++ dktX6_isRefusedPlan_1
theorem dksX6_isRefusedPlan_0 : cX6_isRefusedPlan.data.toList.drop 0 = dktX6_isRefusedPlan_0 := by decide +kernel
theorem dksX6_isRefusedPlan_1 : cX6_isRefusedPlan.data.toList.drop 22 = dktX6_isRefusedPlan_1 := dk_seg dksX6_isRefusedPlan_0 22 rfl rfl
theorem dksX6_isRefusedPlan_2 : cX6_isRefusedPlan.data.toList.drop 45 = dktX6_isRefusedPlan_2 := dk_seg dksX6_isRefusedPlan_1 23 rfl rfl
theorem dksX6_isRefusedPlan_3 : cX6_isRefusedPlan.data.toList.drop 67 = dktX6_isRefusedPlan_3 := dk_seg dksX6_isRefusedPlan_2 22 rfl rfl
theorem dksX6_isRefusedPlan_4 : cX6_isRefusedPlan.data.toList.drop 91 = dktX6_isRefusedPlan_4 := dk_seg dksX6_isRefusedPlan_3 24 rfl rfl
theorem dX6_isRefusedPlan_0 : decode cX6_isRefusedPlan 0 = .ok (.aload_n 0, 1) := dk_42 (dk_at dksX6_isRefusedPlan_0 0 rfl rfl)
theorem dX6_isRefusedPlan_1 : decode cX6_isRefusedPlan 1 = .ok (.getfield 7, 3) := dk_180 0 7 (dk_at dksX6_isRefusedPlan_0 1 rfl rfl)
theorem dX6_isRefusedPlan_4 : decode cX6_isRefusedPlan 4 = .ok (.iconst 4, 1) := dk_7 (dk_at dksX6_isRefusedPlan_0 4 rfl rfl)
theorem dX6_isRefusedPlan_5 : decode cX6_isRefusedPlan 5 = .ok (.iaload, 1) := dk_46 (dk_at dksX6_isRefusedPlan_0 5 rfl rfl)
theorem dX6_isRefusedPlan_6 : decode cX6_isRefusedPlan 6 = .ok (.bipush 6, 2) := dk_16 6 (dk_at dksX6_isRefusedPlan_0 6 rfl rfl)
theorem dX6_isRefusedPlan_8 : decode cX6_isRefusedPlan 8 = .ok (.if_icmp .ne 11, 3) := dk_160 0 11 (dk_at dksX6_isRefusedPlan_0 8 rfl rfl)
theorem dX6_isRefusedPlan_11 : decode cX6_isRefusedPlan 11 = .ok (.aload_n 0, 1) := dk_42 (dk_at dksX6_isRefusedPlan_0 11 rfl rfl)
theorem dX6_isRefusedPlan_12 : decode cX6_isRefusedPlan 12 = .ok (.iconst 1, 1) := dk_4 (dk_at dksX6_isRefusedPlan_0 12 rfl rfl)
theorem dX6_isRefusedPlan_13 : decode cX6_isRefusedPlan 13 = .ok (.bipush 6, 2) := dk_16 6 (dk_at dksX6_isRefusedPlan_0 13 rfl rfl)
theorem dX6_isRefusedPlan_15 : decode cX6_isRefusedPlan 15 = .ok (.invokevirtual 113, 3) := dk_182 0 113 (dk_at dksX6_isRefusedPlan_0 15 rfl rfl)
theorem dX6_isRefusedPlan_18 : decode cX6_isRefusedPlan 18 = .ok (.ireturn, 1) := dk_172 (dk_at dksX6_isRefusedPlan_0 18 rfl rfl)
theorem dX6_isRefusedPlan_19 : decode cX6_isRefusedPlan 19 = .ok (.aload_n 0, 1) := dk_42 (dk_at dksX6_isRefusedPlan_0 19 rfl rfl)
theorem dX6_isRefusedPlan_20 : decode cX6_isRefusedPlan 20 = .ok (.iload_n 1, 1) := dk_27 (dk_at dksX6_isRefusedPlan_0 20 rfl rfl)
theorem dX6_isRefusedPlan_21 : decode cX6_isRefusedPlan 21 = .ok (.iconst 0, 1) := dk_3 (dk_at dksX6_isRefusedPlan_0 21 rfl rfl)
theorem dX6_isRefusedPlan_22 : decode cX6_isRefusedPlan 22 = .ok (.invokevirtual 140, 3) := dk_182 0 140 (dk_at dksX6_isRefusedPlan_1 0 rfl rfl)
theorem dX6_isRefusedPlan_25 : decode cX6_isRefusedPlan 25 = .ok (.ifCond .eq 15, 3) := dk_153 0 15 (dk_at dksX6_isRefusedPlan_1 3 rfl rfl)
theorem dX6_isRefusedPlan_28 : decode cX6_isRefusedPlan 28 = .ok (.aload_n 0, 1) := dk_42 (dk_at dksX6_isRefusedPlan_1 6 rfl rfl)
theorem dX6_isRefusedPlan_29 : decode cX6_isRefusedPlan 29 = .ok (.iconst 3, 1) := dk_6 (dk_at dksX6_isRefusedPlan_1 7 rfl rfl)
theorem dX6_isRefusedPlan_30 : decode cX6_isRefusedPlan 30 = .ok (.aload_n 0, 1) := dk_42 (dk_at dksX6_isRefusedPlan_1 8 rfl rfl)
theorem dX6_isRefusedPlan_31 : decode cX6_isRefusedPlan 31 = .ok (.iload_n 1, 1) := dk_27 (dk_at dksX6_isRefusedPlan_1 9 rfl rfl)
theorem dX6_isRefusedPlan_32 : decode cX6_isRefusedPlan 32 = .ok (.iconst 0, 1) := dk_3 (dk_at dksX6_isRefusedPlan_1 10 rfl rfl)
theorem dX6_isRefusedPlan_33 : decode cX6_isRefusedPlan 33 = .ok (.invokevirtual 140, 3) := dk_182 0 140 (dk_at dksX6_isRefusedPlan_1 11 rfl rfl)
theorem dX6_isRefusedPlan_36 : decode cX6_isRefusedPlan 36 = .ok (.invokevirtual 113, 3) := dk_182 0 113 (dk_at dksX6_isRefusedPlan_1 14 rfl rfl)
theorem dX6_isRefusedPlan_39 : decode cX6_isRefusedPlan 39 = .ok (.ireturn, 1) := dk_172 (dk_at dksX6_isRefusedPlan_1 17 rfl rfl)
theorem dX6_isRefusedPlan_40 : decode cX6_isRefusedPlan 40 = .ok (.aload_n 0, 1) := dk_42 (dk_at dksX6_isRefusedPlan_1 18 rfl rfl)
theorem dX6_isRefusedPlan_41 : decode cX6_isRefusedPlan 41 = .ok (.iload_n 1, 1) := dk_27 (dk_at dksX6_isRefusedPlan_1 19 rfl rfl)
theorem dX6_isRefusedPlan_42 : decode cX6_isRefusedPlan 42 = .ok (.invokevirtual 177, 3) := dk_182 0 177 (dk_at dksX6_isRefusedPlan_1 20 rfl rfl)
theorem dX6_isRefusedPlan_45 : decode cX6_isRefusedPlan 45 = .ok (.ifCond .lt 20, 3) := dk_155 0 20 (dk_at dksX6_isRefusedPlan_2 0 rfl rfl)
theorem dX6_isRefusedPlan_48 : decode cX6_isRefusedPlan 48 = .ok (.aload_n 0, 1) := dk_42 (dk_at dksX6_isRefusedPlan_2 3 rfl rfl)
theorem dX6_isRefusedPlan_49 : decode cX6_isRefusedPlan 49 = .ok (.bipush 6, 2) := dk_16 6 (dk_at dksX6_isRefusedPlan_2 4 rfl rfl)
theorem dX6_isRefusedPlan_51 : decode cX6_isRefusedPlan 51 = .ok (.aload_n 0, 1) := dk_42 (dk_at dksX6_isRefusedPlan_2 6 rfl rfl)
theorem dX6_isRefusedPlan_52 : decode cX6_isRefusedPlan 52 = .ok (.aload_n 0, 1) := dk_42 (dk_at dksX6_isRefusedPlan_2 7 rfl rfl)
theorem dX6_isRefusedPlan_53 : decode cX6_isRefusedPlan 53 = .ok (.iload_n 1, 1) := dk_27 (dk_at dksX6_isRefusedPlan_2 8 rfl rfl)
theorem dX6_isRefusedPlan_54 : decode cX6_isRefusedPlan 54 = .ok (.invokevirtual 177, 3) := dk_182 0 177 (dk_at dksX6_isRefusedPlan_2 9 rfl rfl)
theorem dX6_isRefusedPlan_57 : decode cX6_isRefusedPlan 57 = .ok (.iconst 2, 1) := dk_5 (dk_at dksX6_isRefusedPlan_2 12 rfl rfl)
theorem dX6_isRefusedPlan_58 : decode cX6_isRefusedPlan 58 = .ok (.invokevirtual 167, 3) := dk_182 0 167 (dk_at dksX6_isRefusedPlan_2 13 rfl rfl)
theorem dX6_isRefusedPlan_61 : decode cX6_isRefusedPlan 61 = .ok (.invokevirtual 113, 3) := dk_182 0 113 (dk_at dksX6_isRefusedPlan_2 16 rfl rfl)
theorem dX6_isRefusedPlan_64 : decode cX6_isRefusedPlan 64 = .ok (.ireturn, 1) := dk_172 (dk_at dksX6_isRefusedPlan_2 19 rfl rfl)
theorem dX6_isRefusedPlan_65 : decode cX6_isRefusedPlan 65 = .ok (.iload_n 2, 1) := dk_28 (dk_at dksX6_isRefusedPlan_2 20 rfl rfl)
theorem dX6_isRefusedPlan_66 : decode cX6_isRefusedPlan 66 = .ok (.aload_n 0, 1) := dk_42 (dk_at dksX6_isRefusedPlan_2 21 rfl rfl)
theorem dX6_isRefusedPlan_67 : decode cX6_isRefusedPlan 67 = .ok (.getfield 7, 3) := dk_180 0 7 (dk_at dksX6_isRefusedPlan_3 0 rfl rfl)
theorem dX6_isRefusedPlan_70 : decode cX6_isRefusedPlan 70 = .ok (.iconst 0, 1) := dk_3 (dk_at dksX6_isRefusedPlan_3 3 rfl rfl)
theorem dX6_isRefusedPlan_71 : decode cX6_isRefusedPlan 71 = .ok (.iaload, 1) := dk_46 (dk_at dksX6_isRefusedPlan_3 4 rfl rfl)
theorem dX6_isRefusedPlan_72 : decode cX6_isRefusedPlan 72 = .ok (.if_icmp .ge 22, 3) := dk_162 0 22 (dk_at dksX6_isRefusedPlan_3 5 rfl rfl)
theorem dX6_isRefusedPlan_75 : decode cX6_isRefusedPlan 75 = .ok (.aload_n 0, 1) := dk_42 (dk_at dksX6_isRefusedPlan_3 8 rfl rfl)
theorem dX6_isRefusedPlan_76 : decode cX6_isRefusedPlan 76 = .ok (.bipush 7, 2) := dk_16 7 (dk_at dksX6_isRefusedPlan_3 9 rfl rfl)
theorem dX6_isRefusedPlan_78 : decode cX6_isRefusedPlan 78 = .ok (.aload_n 0, 1) := dk_42 (dk_at dksX6_isRefusedPlan_3 11 rfl rfl)
theorem dX6_isRefusedPlan_79 : decode cX6_isRefusedPlan 79 = .ok (.getfield 7, 3) := dk_180 0 7 (dk_at dksX6_isRefusedPlan_3 12 rfl rfl)
theorem dX6_isRefusedPlan_82 : decode cX6_isRefusedPlan 82 = .ok (.iconst 0, 1) := dk_3 (dk_at dksX6_isRefusedPlan_3 15 rfl rfl)
theorem dX6_isRefusedPlan_83 : decode cX6_isRefusedPlan 83 = .ok (.iaload, 1) := dk_46 (dk_at dksX6_isRefusedPlan_3 16 rfl rfl)
theorem dX6_isRefusedPlan_84 : decode cX6_isRefusedPlan 84 = .ok (.invokevirtual 113, 3) := dk_182 0 113 (dk_at dksX6_isRefusedPlan_3 17 rfl rfl)
theorem dX6_isRefusedPlan_87 : decode cX6_isRefusedPlan 87 = .ok (.ifCond .eq 7, 3) := dk_153 0 7 (dk_at dksX6_isRefusedPlan_3 20 rfl rfl)
theorem dX6_isRefusedPlan_90 : decode cX6_isRefusedPlan 90 = .ok (.iconst 1, 1) := dk_4 (dk_at dksX6_isRefusedPlan_3 23 rfl rfl)
theorem dX6_isRefusedPlan_91 : decode cX6_isRefusedPlan 91 = .ok (.goto 4, 3) := dk_167 0 4 (dk_at dksX6_isRefusedPlan_4 0 rfl rfl)
theorem dX6_isRefusedPlan_94 : decode cX6_isRefusedPlan 94 = .ok (.iconst 0, 1) := dk_3 (dk_at dksX6_isRefusedPlan_4 3 rfl rfl)
theorem dX6_isRefusedPlan_95 : decode cX6_isRefusedPlan 95 = .ok (.ireturn, 1) := dk_172 (dk_at dksX6_isRefusedPlan_4 4 rfl rfl)
abbrev kX6_isRefusedPlan : KX := (cX6_isRefusedPlan, "TissueBalloonsModel", "isRefusedPlan", 3, some .boolean, [], 2)
abbrev cX6_planOf : ByteArray := prog_14_method_47_code
def yX6_planOf : MethodName := ⟨RX6, "planOf", "(I)I"⟩
def dkwX6_planOf_1 : List UInt8 := [132, 2, 1, 167, 255, 231, 2, 172]
abbrev dktX6_planOf_1 : List UInt8 := dkwX6_planOf_1 ++ []
def dkwX6_planOf_0 : List UInt8 := [3, 61, 28, 42, 180, 0, 7, 7, 46, 162, 0, 21, 42, 28, 3, 182, 0, 167, 27, 160, 0, 5, 28, 172]
abbrev dktX6_planOf_0 : List UInt8 := dkwX6_planOf_0 ++ dktX6_planOf_1
theorem dksX6_planOf_0 : cX6_planOf.data.toList.drop 0 = dktX6_planOf_0 := by decide +kernel
theorem dksX6_planOf_1 : cX6_planOf.data.toList.drop 24 = dktX6_planOf_1 := dk_seg dksX6_planOf_0 24 rfl rfl
theorem dX6_planOf_0 : decode cX6_planOf 0 = .ok (.iconst 0, 1) := dk_3 (dk_at dksX6_planOf_0 0 rfl rfl)
theorem dX6_planOf_1 : decode cX6_planOf 1 = .ok (.istore_n 2, 1) := dk_61 (dk_at dksX6_planOf_0 1 rfl rfl)
theorem dX6_planOf_2 : decode cX6_planOf 2 = .ok (.iload_n 2, 1) := dk_28 (dk_at dksX6_planOf_0 2 rfl rfl)
theorem dX6_planOf_3 : decode cX6_planOf 3 = .ok (.aload_n 0, 1) := dk_42 (dk_at dksX6_planOf_0 3 rfl rfl)
theorem dX6_planOf_4 : decode cX6_planOf 4 = .ok (.getfield 7, 3) := dk_180 0 7 (dk_at dksX6_planOf_0 4 rfl rfl)
theorem dX6_planOf_7 : decode cX6_planOf 7 = .ok (.iconst 4, 1) := dk_7 (dk_at dksX6_planOf_0 7 rfl rfl)
theorem dX6_planOf_8 : decode cX6_planOf 8 = .ok (.iaload, 1) := dk_46 (dk_at dksX6_planOf_0 8 rfl rfl)
theorem dX6_planOf_9 : decode cX6_planOf 9 = .ok (.if_icmp .ge 21, 3) := dk_162 0 21 (dk_at dksX6_planOf_0 9 rfl rfl)
theorem dX6_planOf_12 : decode cX6_planOf 12 = .ok (.aload_n 0, 1) := dk_42 (dk_at dksX6_planOf_0 12 rfl rfl)
theorem dX6_planOf_13 : decode cX6_planOf 13 = .ok (.iload_n 2, 1) := dk_28 (dk_at dksX6_planOf_0 13 rfl rfl)
theorem dX6_planOf_14 : decode cX6_planOf 14 = .ok (.iconst 0, 1) := dk_3 (dk_at dksX6_planOf_0 14 rfl rfl)
theorem dX6_planOf_15 : decode cX6_planOf 15 = .ok (.invokevirtual 167, 3) := dk_182 0 167 (dk_at dksX6_planOf_0 15 rfl rfl)
theorem dX6_planOf_18 : decode cX6_planOf 18 = .ok (.iload_n 1, 1) := dk_27 (dk_at dksX6_planOf_0 18 rfl rfl)
theorem dX6_planOf_19 : decode cX6_planOf 19 = .ok (.if_icmp .ne 5, 3) := dk_160 0 5 (dk_at dksX6_planOf_0 19 rfl rfl)
theorem dX6_planOf_22 : decode cX6_planOf 22 = .ok (.iload_n 2, 1) := dk_28 (dk_at dksX6_planOf_0 22 rfl rfl)
theorem dX6_planOf_23 : decode cX6_planOf 23 = .ok (.ireturn, 1) := dk_172 (dk_at dksX6_planOf_0 23 rfl rfl)
theorem dX6_planOf_24 : decode cX6_planOf 24 = .ok (.iinc 2 1, 3) := dk_132 2 1 (dk_at dksX6_planOf_1 0 rfl rfl)
theorem dX6_planOf_27 : decode cX6_planOf 27 = .ok (.goto (-25), 3) := dk_167 255 231 (dk_at dksX6_planOf_1 3 rfl rfl)
theorem dX6_planOf_30 : decode cX6_planOf 30 = .ok (.iconst (-1), 1) := dk_2 (dk_at dksX6_planOf_1 6 rfl rfl)
theorem dX6_planOf_31 : decode cX6_planOf 31 = .ok (.ireturn, 1) := dk_172 (dk_at dksX6_planOf_1 7 rfl rfl)
abbrev kX6_planOf : KX := (cX6_planOf, "TissueBalloonsModel", "planOf", 3, some .int, [], 1)
abbrev cX6_pv : ByteArray := prog_14_method_18_code
def yX6_pv : MethodName := ⟨RX6, "pv", "(II)I"⟩
def dkwX6_pv_0 : List UInt8 := [42, 180, 0, 7, 17, 0, 204, 6, 27, 104, 96, 28, 96, 46, 172]
abbrev dktX6_pv_0 : List UInt8 := dkwX6_pv_0 ++ []
theorem dksX6_pv_0 : cX6_pv.data.toList.drop 0 = dktX6_pv_0 := by decide +kernel
theorem dX6_pv_0 : decode cX6_pv 0 = .ok (.aload_n 0, 1) := dk_42 (dk_at dksX6_pv_0 0 rfl rfl)
theorem dX6_pv_1 : decode cX6_pv 1 = .ok (.getfield 7, 3) := dk_180 0 7 (dk_at dksX6_pv_0 1 rfl rfl)
theorem dX6_pv_4 : decode cX6_pv 4 = .ok (.sipush 204, 3) := dk_17 0 204 (dk_at dksX6_pv_0 4 rfl rfl)
theorem dX6_pv_7 : decode cX6_pv 7 = .ok (.iconst 3, 1) := dk_6 (dk_at dksX6_pv_0 7 rfl rfl)
theorem dX6_pv_8 : decode cX6_pv 8 = .ok (.iload_n 1, 1) := dk_27 (dk_at dksX6_pv_0 8 rfl rfl)
theorem dX6_pv_9 : decode cX6_pv 9 = .ok (.imul, 1) := dk_104 (dk_at dksX6_pv_0 9 rfl rfl)
theorem dX6_pv_10 : decode cX6_pv 10 = .ok (.iadd, 1) := dk_96 (dk_at dksX6_pv_0 10 rfl rfl)
theorem dX6_pv_11 : decode cX6_pv 11 = .ok (.iload_n 2, 1) := dk_28 (dk_at dksX6_pv_0 11 rfl rfl)
theorem dX6_pv_12 : decode cX6_pv 12 = .ok (.iadd, 1) := dk_96 (dk_at dksX6_pv_0 12 rfl rfl)
theorem dX6_pv_13 : decode cX6_pv 13 = .ok (.iaload, 1) := dk_46 (dk_at dksX6_pv_0 13 rfl rfl)
theorem dX6_pv_14 : decode cX6_pv 14 = .ok (.ireturn, 1) := dk_172 (dk_at dksX6_pv_0 14 rfl rfl)
abbrev kX6_pv : KX := (cX6_pv, "TissueBalloonsModel", "pv", 3, some .int, [], 0)
abbrev cX6_plans : ByteArray := prog_14_method_51_code
def yX6_plans : MethodName := ⟨RX6, "plans", "(III)I"⟩
def dkwX6_plans_4 : List UInt8 := [180, 0, 7, 7, 92, 46, 4, 96, 79, 21, 4, 172]
abbrev dktX6_plans_4 : List UInt8 := dkwX6_plans_4 ++ []
def dkwX6_plans_3 : List UInt8 := [21, 4, 3, 27, 182, 0, 170, 42, 21, 4, 4, 28, 182, 0, 170, 42, 21, 4, 5, 29, 182, 0, 170, 42]
abbrev dktX6_plans_3 : List UInt8 := dkwX6_plans_3 ++ dktX6_plans_4
def dkwX6_plans_2 : List UInt8 := [182, 0, 167, 27, 164, 0, 19, 42, 21, 4, 4, 100, 21, 4, 182, 0, 173, 132, 4, 255, 167, 255, 199, 42]
abbrev dktX6_plans_2 : List UInt8 := dkwX6_plans_2 ++ dktX6_plans_3
def dkwX6_plans_1 : List UInt8 := [163, 0, 29, 42, 21, 4, 4, 100, 5, 182, 0, 167, 29, 160, 0, 32, 42, 21, 4, 4, 100, 3]
abbrev dktX6_plans_1 : List UInt8 := dkwX6_plans_1 ++ dktX6_plans_2
def dkwX6_plans_0 : List UInt8 := [42, 180, 0, 7, 7, 46, 54, 4, 21, 4, 158, 0, 58, 42, 21, 4, 4, 100, 5, 182, 0, 167, 29]
abbrev dktX6_plans_0 : List UInt8 := dkwX6_plans_0 ++ dktX6_plans_1
theorem dksX6_plans_0 : cX6_plans.data.toList.drop 0 = dktX6_plans_0 := by decide +kernel
theorem dksX6_plans_1 : cX6_plans.data.toList.drop 23 = dktX6_plans_1 := dk_seg dksX6_plans_0 23 rfl rfl
theorem dksX6_plans_2 : cX6_plans.data.toList.drop 45 = dktX6_plans_2 := dk_seg dksX6_plans_1 22 rfl rfl
theorem dksX6_plans_3 : cX6_plans.data.toList.drop 69 = dktX6_plans_3 := dk_seg dksX6_plans_2 24 rfl rfl
theorem dksX6_plans_4 : cX6_plans.data.toList.drop 93 = dktX6_plans_4 := dk_seg dksX6_plans_3 24 rfl rfl
theorem dX6_plans_0 : decode cX6_plans 0 = .ok (.aload_n 0, 1) := dk_42 (dk_at dksX6_plans_0 0 rfl rfl)
theorem dX6_plans_1 : decode cX6_plans 1 = .ok (.getfield 7, 3) := dk_180 0 7 (dk_at dksX6_plans_0 1 rfl rfl)
theorem dX6_plans_4 : decode cX6_plans 4 = .ok (.iconst 4, 1) := dk_7 (dk_at dksX6_plans_0 4 rfl rfl)
theorem dX6_plans_5 : decode cX6_plans 5 = .ok (.iaload, 1) := dk_46 (dk_at dksX6_plans_0 5 rfl rfl)
theorem dX6_plans_6 : decode cX6_plans 6 = .ok (.istore 4, 2) := dk_54 4 (dk_at dksX6_plans_0 6 rfl rfl)
theorem dX6_plans_8 : decode cX6_plans 8 = .ok (.iload 4, 2) := dk_21 4 (dk_at dksX6_plans_0 8 rfl rfl)
theorem dX6_plans_10 : decode cX6_plans 10 = .ok (.ifCond .le 58, 3) := dk_158 0 58 (dk_at dksX6_plans_0 10 rfl rfl)
theorem dX6_plans_13 : decode cX6_plans 13 = .ok (.aload_n 0, 1) := dk_42 (dk_at dksX6_plans_0 13 rfl rfl)
theorem dX6_plans_14 : decode cX6_plans 14 = .ok (.iload 4, 2) := dk_21 4 (dk_at dksX6_plans_0 14 rfl rfl)
theorem dX6_plans_16 : decode cX6_plans 16 = .ok (.iconst 1, 1) := dk_4 (dk_at dksX6_plans_0 16 rfl rfl)
theorem dX6_plans_17 : decode cX6_plans 17 = .ok (.isub, 1) := dk_100 (dk_at dksX6_plans_0 17 rfl rfl)
theorem dX6_plans_18 : decode cX6_plans 18 = .ok (.iconst 2, 1) := dk_5 (dk_at dksX6_plans_0 18 rfl rfl)
theorem dX6_plans_19 : decode cX6_plans 19 = .ok (.invokevirtual 167, 3) := dk_182 0 167 (dk_at dksX6_plans_0 19 rfl rfl)
theorem dX6_plans_22 : decode cX6_plans 22 = .ok (.iload_n 3, 1) := dk_29 (dk_at dksX6_plans_0 22 rfl rfl)
theorem dX6_plans_23 : decode cX6_plans 23 = .ok (.if_icmp .gt 29, 3) := dk_163 0 29 (dk_at dksX6_plans_1 0 rfl rfl)
theorem dX6_plans_26 : decode cX6_plans 26 = .ok (.aload_n 0, 1) := dk_42 (dk_at dksX6_plans_1 3 rfl rfl)
theorem dX6_plans_27 : decode cX6_plans 27 = .ok (.iload 4, 2) := dk_21 4 (dk_at dksX6_plans_1 4 rfl rfl)
theorem dX6_plans_29 : decode cX6_plans 29 = .ok (.iconst 1, 1) := dk_4 (dk_at dksX6_plans_1 6 rfl rfl)
theorem dX6_plans_30 : decode cX6_plans 30 = .ok (.isub, 1) := dk_100 (dk_at dksX6_plans_1 7 rfl rfl)
theorem dX6_plans_31 : decode cX6_plans 31 = .ok (.iconst 2, 1) := dk_5 (dk_at dksX6_plans_1 8 rfl rfl)
theorem dX6_plans_32 : decode cX6_plans 32 = .ok (.invokevirtual 167, 3) := dk_182 0 167 (dk_at dksX6_plans_1 9 rfl rfl)
theorem dX6_plans_35 : decode cX6_plans 35 = .ok (.iload_n 3, 1) := dk_29 (dk_at dksX6_plans_1 12 rfl rfl)
theorem dX6_plans_36 : decode cX6_plans 36 = .ok (.if_icmp .ne 32, 3) := dk_160 0 32 (dk_at dksX6_plans_1 13 rfl rfl)
theorem dX6_plans_39 : decode cX6_plans 39 = .ok (.aload_n 0, 1) := dk_42 (dk_at dksX6_plans_1 16 rfl rfl)
theorem dX6_plans_40 : decode cX6_plans 40 = .ok (.iload 4, 2) := dk_21 4 (dk_at dksX6_plans_1 17 rfl rfl)
theorem dX6_plans_42 : decode cX6_plans 42 = .ok (.iconst 1, 1) := dk_4 (dk_at dksX6_plans_1 19 rfl rfl)
theorem dX6_plans_43 : decode cX6_plans 43 = .ok (.isub, 1) := dk_100 (dk_at dksX6_plans_1 20 rfl rfl)
theorem dX6_plans_44 : decode cX6_plans 44 = .ok (.iconst 0, 1) := dk_3 (dk_at dksX6_plans_1 21 rfl rfl)
theorem dX6_plans_45 : decode cX6_plans 45 = .ok (.invokevirtual 167, 3) := dk_182 0 167 (dk_at dksX6_plans_2 0 rfl rfl)
theorem dX6_plans_48 : decode cX6_plans 48 = .ok (.iload_n 1, 1) := dk_27 (dk_at dksX6_plans_2 3 rfl rfl)
theorem dX6_plans_49 : decode cX6_plans 49 = .ok (.if_icmp .le 19, 3) := dk_164 0 19 (dk_at dksX6_plans_2 4 rfl rfl)
theorem dX6_plans_52 : decode cX6_plans 52 = .ok (.aload_n 0, 1) := dk_42 (dk_at dksX6_plans_2 7 rfl rfl)
theorem dX6_plans_53 : decode cX6_plans 53 = .ok (.iload 4, 2) := dk_21 4 (dk_at dksX6_plans_2 8 rfl rfl)
theorem dX6_plans_55 : decode cX6_plans 55 = .ok (.iconst 1, 1) := dk_4 (dk_at dksX6_plans_2 10 rfl rfl)
theorem dX6_plans_56 : decode cX6_plans 56 = .ok (.isub, 1) := dk_100 (dk_at dksX6_plans_2 11 rfl rfl)
theorem dX6_plans_57 : decode cX6_plans 57 = .ok (.iload 4, 2) := dk_21 4 (dk_at dksX6_plans_2 12 rfl rfl)
theorem dX6_plans_59 : decode cX6_plans 59 = .ok (.invokevirtual 173, 3) := dk_182 0 173 (dk_at dksX6_plans_2 14 rfl rfl)
theorem dX6_plans_62 : decode cX6_plans 62 = .ok (.iinc 4 (-1), 3) := dk_132 4 255 (dk_at dksX6_plans_2 17 rfl rfl)
theorem dX6_plans_65 : decode cX6_plans 65 = .ok (.goto (-57), 3) := dk_167 255 199 (dk_at dksX6_plans_2 20 rfl rfl)
theorem dX6_plans_68 : decode cX6_plans 68 = .ok (.aload_n 0, 1) := dk_42 (dk_at dksX6_plans_2 23 rfl rfl)
theorem dX6_plans_69 : decode cX6_plans 69 = .ok (.iload 4, 2) := dk_21 4 (dk_at dksX6_plans_3 0 rfl rfl)
theorem dX6_plans_71 : decode cX6_plans 71 = .ok (.iconst 0, 1) := dk_3 (dk_at dksX6_plans_3 2 rfl rfl)
theorem dX6_plans_72 : decode cX6_plans 72 = .ok (.iload_n 1, 1) := dk_27 (dk_at dksX6_plans_3 3 rfl rfl)
theorem dX6_plans_73 : decode cX6_plans 73 = .ok (.invokevirtual 170, 3) := dk_182 0 170 (dk_at dksX6_plans_3 4 rfl rfl)
theorem dX6_plans_76 : decode cX6_plans 76 = .ok (.aload_n 0, 1) := dk_42 (dk_at dksX6_plans_3 7 rfl rfl)
theorem dX6_plans_77 : decode cX6_plans 77 = .ok (.iload 4, 2) := dk_21 4 (dk_at dksX6_plans_3 8 rfl rfl)
theorem dX6_plans_79 : decode cX6_plans 79 = .ok (.iconst 1, 1) := dk_4 (dk_at dksX6_plans_3 10 rfl rfl)
theorem dX6_plans_80 : decode cX6_plans 80 = .ok (.iload_n 2, 1) := dk_28 (dk_at dksX6_plans_3 11 rfl rfl)
theorem dX6_plans_81 : decode cX6_plans 81 = .ok (.invokevirtual 170, 3) := dk_182 0 170 (dk_at dksX6_plans_3 12 rfl rfl)
theorem dX6_plans_84 : decode cX6_plans 84 = .ok (.aload_n 0, 1) := dk_42 (dk_at dksX6_plans_3 15 rfl rfl)
theorem dX6_plans_85 : decode cX6_plans 85 = .ok (.iload 4, 2) := dk_21 4 (dk_at dksX6_plans_3 16 rfl rfl)
theorem dX6_plans_87 : decode cX6_plans 87 = .ok (.iconst 2, 1) := dk_5 (dk_at dksX6_plans_3 18 rfl rfl)
theorem dX6_plans_88 : decode cX6_plans 88 = .ok (.iload_n 3, 1) := dk_29 (dk_at dksX6_plans_3 19 rfl rfl)
theorem dX6_plans_89 : decode cX6_plans 89 = .ok (.invokevirtual 170, 3) := dk_182 0 170 (dk_at dksX6_plans_3 20 rfl rfl)
theorem dX6_plans_92 : decode cX6_plans 92 = .ok (.aload_n 0, 1) := dk_42 (dk_at dksX6_plans_3 23 rfl rfl)
theorem dX6_plans_93 : decode cX6_plans 93 = .ok (.getfield 7, 3) := dk_180 0 7 (dk_at dksX6_plans_4 0 rfl rfl)
theorem dX6_plans_96 : decode cX6_plans 96 = .ok (.iconst 4, 1) := dk_7 (dk_at dksX6_plans_4 3 rfl rfl)
theorem dX6_plans_97 : decode cX6_plans 97 = .ok (.dup2, 1) := dk_92 (dk_at dksX6_plans_4 4 rfl rfl)
theorem dX6_plans_98 : decode cX6_plans 98 = .ok (.iaload, 1) := dk_46 (dk_at dksX6_plans_4 5 rfl rfl)
theorem dX6_plans_99 : decode cX6_plans 99 = .ok (.iconst 1, 1) := dk_4 (dk_at dksX6_plans_4 6 rfl rfl)
theorem dX6_plans_100 : decode cX6_plans 100 = .ok (.iadd, 1) := dk_96 (dk_at dksX6_plans_4 7 rfl rfl)
theorem dX6_plans_101 : decode cX6_plans 101 = .ok (.iastore, 1) := dk_79 (dk_at dksX6_plans_4 8 rfl rfl)
theorem dX6_plans_102 : decode cX6_plans 102 = .ok (.iload 4, 2) := dk_21 4 (dk_at dksX6_plans_4 9 rfl rfl)
theorem dX6_plans_104 : decode cX6_plans 104 = .ok (.ireturn, 1) := dk_172 (dk_at dksX6_plans_4 11 rfl rfl)
abbrev kX6_plans : KX := (cX6_plans, "TissueBalloonsModel", "plans", 5, some .int, [], 2)
abbrev cX6_movesPlan : ByteArray := prog_14_method_48_code
def yX6_movesPlan : MethodName := ⟨RX6, "movesPlan", "(II)V"⟩
def dkwX6_movesPlan_1 : List UInt8 := [167, 255, 236, 177]
abbrev dktX6_movesPlan_1 : List UInt8 := dkwX6_movesPlan_1 ++ []
def dkwX6_movesPlan_0 : List UInt8 := [3, 62, 29, 6, 162, 0, 21, 42, 28, 29, 42, 27, 29, 182, 0, 167, 182, 0, 170, 132, 3, 1]
abbrev dktX6_movesPlan_0 : List UInt8 := dkwX6_movesPlan_0 ++ dktX6_movesPlan_1
theorem dksX6_movesPlan_0 : cX6_movesPlan.data.toList.drop 0 = dktX6_movesPlan_0 := by decide +kernel
theorem dksX6_movesPlan_1 : cX6_movesPlan.data.toList.drop 22 = dktX6_movesPlan_1 := dk_seg dksX6_movesPlan_0 22 rfl rfl
theorem dX6_movesPlan_0 : decode cX6_movesPlan 0 = .ok (.iconst 0, 1) := dk_3 (dk_at dksX6_movesPlan_0 0 rfl rfl)
theorem dX6_movesPlan_1 : decode cX6_movesPlan 1 = .ok (.istore_n 3, 1) := dk_62 (dk_at dksX6_movesPlan_0 1 rfl rfl)
theorem dX6_movesPlan_2 : decode cX6_movesPlan 2 = .ok (.iload_n 3, 1) := dk_29 (dk_at dksX6_movesPlan_0 2 rfl rfl)
theorem dX6_movesPlan_3 : decode cX6_movesPlan 3 = .ok (.iconst 3, 1) := dk_6 (dk_at dksX6_movesPlan_0 3 rfl rfl)
theorem dX6_movesPlan_4 : decode cX6_movesPlan 4 = .ok (.if_icmp .ge 21, 3) := dk_162 0 21 (dk_at dksX6_movesPlan_0 4 rfl rfl)
theorem dX6_movesPlan_7 : decode cX6_movesPlan 7 = .ok (.aload_n 0, 1) := dk_42 (dk_at dksX6_movesPlan_0 7 rfl rfl)
theorem dX6_movesPlan_8 : decode cX6_movesPlan 8 = .ok (.iload_n 2, 1) := dk_28 (dk_at dksX6_movesPlan_0 8 rfl rfl)
theorem dX6_movesPlan_9 : decode cX6_movesPlan 9 = .ok (.iload_n 3, 1) := dk_29 (dk_at dksX6_movesPlan_0 9 rfl rfl)
theorem dX6_movesPlan_10 : decode cX6_movesPlan 10 = .ok (.aload_n 0, 1) := dk_42 (dk_at dksX6_movesPlan_0 10 rfl rfl)
theorem dX6_movesPlan_11 : decode cX6_movesPlan 11 = .ok (.iload_n 1, 1) := dk_27 (dk_at dksX6_movesPlan_0 11 rfl rfl)
theorem dX6_movesPlan_12 : decode cX6_movesPlan 12 = .ok (.iload_n 3, 1) := dk_29 (dk_at dksX6_movesPlan_0 12 rfl rfl)
theorem dX6_movesPlan_13 : decode cX6_movesPlan 13 = .ok (.invokevirtual 167, 3) := dk_182 0 167 (dk_at dksX6_movesPlan_0 13 rfl rfl)
theorem dX6_movesPlan_16 : decode cX6_movesPlan 16 = .ok (.invokevirtual 170, 3) := dk_182 0 170 (dk_at dksX6_movesPlan_0 16 rfl rfl)
theorem dX6_movesPlan_19 : decode cX6_movesPlan 19 = .ok (.iinc 3 1, 3) := dk_132 3 1 (dk_at dksX6_movesPlan_0 19 rfl rfl)
theorem dX6_movesPlan_22 : decode cX6_movesPlan 22 = .ok (.goto (-20), 3) := dk_167 255 236 (dk_at dksX6_movesPlan_1 0 rfl rfl)
theorem dX6_movesPlan_25 : decode cX6_movesPlan 25 = .ok (.return_, 1) := dk_177 (dk_at dksX6_movesPlan_1 3 rfl rfl)
abbrev kX6_movesPlan : KX := (cX6_movesPlan, "TissueBalloonsModel", "movesPlan", 4, none, [], 1)
abbrev cX6_lp : ByteArray := prog_14_method_19_code
def yX6_lp : MethodName := ⟨RX6, "lp", "(III)V"⟩
def dkwX6_lp_0 : List UInt8 := [42, 180, 0, 7, 17, 0, 204, 6, 27, 104, 96, 28, 96, 29, 79, 177]
abbrev dktX6_lp_0 : List UInt8 := dkwX6_lp_0 ++ []
theorem dksX6_lp_0 : cX6_lp.data.toList.drop 0 = dktX6_lp_0 := by decide +kernel
theorem dX6_lp_0 : decode cX6_lp 0 = .ok (.aload_n 0, 1) := dk_42 (dk_at dksX6_lp_0 0 rfl rfl)
theorem dX6_lp_1 : decode cX6_lp 1 = .ok (.getfield 7, 3) := dk_180 0 7 (dk_at dksX6_lp_0 1 rfl rfl)
theorem dX6_lp_4 : decode cX6_lp 4 = .ok (.sipush 204, 3) := dk_17 0 204 (dk_at dksX6_lp_0 4 rfl rfl)
theorem dX6_lp_7 : decode cX6_lp 7 = .ok (.iconst 3, 1) := dk_6 (dk_at dksX6_lp_0 7 rfl rfl)
theorem dX6_lp_8 : decode cX6_lp 8 = .ok (.iload_n 1, 1) := dk_27 (dk_at dksX6_lp_0 8 rfl rfl)
theorem dX6_lp_9 : decode cX6_lp 9 = .ok (.imul, 1) := dk_104 (dk_at dksX6_lp_0 9 rfl rfl)
theorem dX6_lp_10 : decode cX6_lp 10 = .ok (.iadd, 1) := dk_96 (dk_at dksX6_lp_0 10 rfl rfl)
theorem dX6_lp_11 : decode cX6_lp 11 = .ok (.iload_n 2, 1) := dk_28 (dk_at dksX6_lp_0 11 rfl rfl)
theorem dX6_lp_12 : decode cX6_lp 12 = .ok (.iadd, 1) := dk_96 (dk_at dksX6_lp_0 12 rfl rfl)
theorem dX6_lp_13 : decode cX6_lp 13 = .ok (.iload_n 3, 1) := dk_29 (dk_at dksX6_lp_0 13 rfl rfl)
theorem dX6_lp_14 : decode cX6_lp 14 = .ok (.iastore, 1) := dk_79 (dk_at dksX6_lp_0 14 rfl rfl)
theorem dX6_lp_15 : decode cX6_lp 15 = .ok (.return_, 1) := dk_177 (dk_at dksX6_lp_0 15 rfl rfl)
abbrev kX6_lp : KX := (cX6_lp, "TissueBalloonsModel", "lp", 4, none, [], 0)
abbrev cX6_drop : ByteArray := prog_14_method_53_code
def yX6_drop : MethodName := ⟨RX6, "drop", "(I)I"⟩
def dkwX6_drop_2 : List UInt8 := [46, 182, 0, 101, 172]
abbrev dktX6_drop_2 : List UInt8 := dkwX6_drop_2 ++ []
def dkwX6_drop_1 : List UInt8 := [156, 0, 9, 42, 5, 182, 0, 75, 172, 42, 42, 27, 182, 0, 177, 182, 0, 187, 42, 42, 180, 0, 7, 7]
abbrev dktX6_drop_1 : List UInt8 := dkwX6_drop_1 ++ dktX6_drop_2
def dkwX6_drop_0 : List UInt8 := [42, 182, 0, 87, 42, 27, 182, 0, 158, 154, 0, 9, 42, 4, 182, 0, 75, 172, 42, 27, 182, 0, 177]
abbrev dktX6_drop_0 : List UInt8 := dkwX6_drop_0 ++ dktX6_drop_1
theorem dksX6_drop_0 : cX6_drop.data.toList.drop 0 = dktX6_drop_0 := by decide +kernel
theorem dksX6_drop_1 : cX6_drop.data.toList.drop 23 = dktX6_drop_1 := dk_seg dksX6_drop_0 23 rfl rfl
theorem dksX6_drop_2 : cX6_drop.data.toList.drop 47 = dktX6_drop_2 := dk_seg dksX6_drop_1 24 rfl rfl
theorem dX6_drop_0 : decode cX6_drop 0 = .ok (.aload_n 0, 1) := dk_42 (dk_at dksX6_drop_0 0 rfl rfl)
theorem dX6_drop_1 : decode cX6_drop 1 = .ok (.invokevirtual 87, 3) := dk_182 0 87 (dk_at dksX6_drop_0 1 rfl rfl)
theorem dX6_drop_4 : decode cX6_drop 4 = .ok (.aload_n 0, 1) := dk_42 (dk_at dksX6_drop_0 4 rfl rfl)
theorem dX6_drop_5 : decode cX6_drop 5 = .ok (.iload_n 1, 1) := dk_27 (dk_at dksX6_drop_0 5 rfl rfl)
theorem dX6_drop_6 : decode cX6_drop 6 = .ok (.invokevirtual 158, 3) := dk_182 0 158 (dk_at dksX6_drop_0 6 rfl rfl)
theorem dX6_drop_9 : decode cX6_drop 9 = .ok (.ifCond .ne 9, 3) := dk_154 0 9 (dk_at dksX6_drop_0 9 rfl rfl)
theorem dX6_drop_12 : decode cX6_drop 12 = .ok (.aload_n 0, 1) := dk_42 (dk_at dksX6_drop_0 12 rfl rfl)
theorem dX6_drop_13 : decode cX6_drop 13 = .ok (.iconst 1, 1) := dk_4 (dk_at dksX6_drop_0 13 rfl rfl)
theorem dX6_drop_14 : decode cX6_drop 14 = .ok (.invokevirtual 75, 3) := dk_182 0 75 (dk_at dksX6_drop_0 14 rfl rfl)
theorem dX6_drop_17 : decode cX6_drop 17 = .ok (.ireturn, 1) := dk_172 (dk_at dksX6_drop_0 17 rfl rfl)
theorem dX6_drop_18 : decode cX6_drop 18 = .ok (.aload_n 0, 1) := dk_42 (dk_at dksX6_drop_0 18 rfl rfl)
theorem dX6_drop_19 : decode cX6_drop 19 = .ok (.iload_n 1, 1) := dk_27 (dk_at dksX6_drop_0 19 rfl rfl)
theorem dX6_drop_20 : decode cX6_drop 20 = .ok (.invokevirtual 177, 3) := dk_182 0 177 (dk_at dksX6_drop_0 20 rfl rfl)
theorem dX6_drop_23 : decode cX6_drop 23 = .ok (.ifCond .ge 9, 3) := dk_156 0 9 (dk_at dksX6_drop_1 0 rfl rfl)
theorem dX6_drop_26 : decode cX6_drop 26 = .ok (.aload_n 0, 1) := dk_42 (dk_at dksX6_drop_1 3 rfl rfl)
theorem dX6_drop_27 : decode cX6_drop 27 = .ok (.iconst 2, 1) := dk_5 (dk_at dksX6_drop_1 4 rfl rfl)
theorem dX6_drop_28 : decode cX6_drop 28 = .ok (.invokevirtual 75, 3) := dk_182 0 75 (dk_at dksX6_drop_1 5 rfl rfl)
theorem dX6_drop_31 : decode cX6_drop 31 = .ok (.ireturn, 1) := dk_172 (dk_at dksX6_drop_1 8 rfl rfl)
theorem dX6_drop_32 : decode cX6_drop 32 = .ok (.aload_n 0, 1) := dk_42 (dk_at dksX6_drop_1 9 rfl rfl)
theorem dX6_drop_33 : decode cX6_drop 33 = .ok (.aload_n 0, 1) := dk_42 (dk_at dksX6_drop_1 10 rfl rfl)
theorem dX6_drop_34 : decode cX6_drop 34 = .ok (.iload_n 1, 1) := dk_27 (dk_at dksX6_drop_1 11 rfl rfl)
theorem dX6_drop_35 : decode cX6_drop 35 = .ok (.invokevirtual 177, 3) := dk_182 0 177 (dk_at dksX6_drop_1 12 rfl rfl)
theorem dX6_drop_38 : decode cX6_drop 38 = .ok (.invokevirtual 187, 3) := dk_182 0 187 (dk_at dksX6_drop_1 15 rfl rfl)
theorem dX6_drop_41 : decode cX6_drop 41 = .ok (.aload_n 0, 1) := dk_42 (dk_at dksX6_drop_1 18 rfl rfl)
theorem dX6_drop_42 : decode cX6_drop 42 = .ok (.aload_n 0, 1) := dk_42 (dk_at dksX6_drop_1 19 rfl rfl)
theorem dX6_drop_43 : decode cX6_drop 43 = .ok (.getfield 7, 3) := dk_180 0 7 (dk_at dksX6_drop_1 20 rfl rfl)
theorem dX6_drop_46 : decode cX6_drop 46 = .ok (.iconst 4, 1) := dk_7 (dk_at dksX6_drop_1 23 rfl rfl)
theorem dX6_drop_47 : decode cX6_drop 47 = .ok (.iaload, 1) := dk_46 (dk_at dksX6_drop_2 0 rfl rfl)
theorem dX6_drop_48 : decode cX6_drop 48 = .ok (.invokevirtual 101, 3) := dk_182 0 101 (dk_at dksX6_drop_2 1 rfl rfl)
theorem dX6_drop_51 : decode cX6_drop 51 = .ok (.ireturn, 1) := dk_172 (dk_at dksX6_drop_2 4 rfl rfl)
abbrev kX6_drop : KX := (cX6_drop, "TissueBalloonsModel", "drop", 2, some .int, [], 3)
abbrev cX6_planGoes : ByteArray := prog_14_method_49_code
def yX6_planGoes : MethodName := ⟨RX6, "planGoes", "(I)V"⟩
def dkwX6_planGoes_2 : List UInt8 := [7, 46, 28, 3, 182, 0, 170, 132, 2, 1, 167, 255, 236, 177]
abbrev dktX6_planGoes_2 : List UInt8 := dkwX6_planGoes_2 ++ []
def dkwX6_planGoes_1 : List UInt8 := [4, 96, 28, 182, 0, 173, 132, 2, 1, 167, 255, 235, 3, 61, 28, 6, 162, 0, 21, 42, 42, 180, 0, 7]
abbrev dktX6_planGoes_1 : List UInt8 := dkwX6_planGoes_1 ++ dktX6_planGoes_2
def dkwX6_planGoes_0 : List UInt8 := [42, 180, 0, 7, 7, 92, 46, 4, 100, 79, 27, 61, 28, 42, 180, 0, 7, 7, 46, 162, 0, 17, 42, 28]
abbrev dktX6_planGoes_0 : List UInt8 := dkwX6_planGoes_0 ++ dktX6_planGoes_1
theorem dksX6_planGoes_0 : cX6_planGoes.data.toList.drop 0 = dktX6_planGoes_0 := by decide +kernel
theorem dksX6_planGoes_1 : cX6_planGoes.data.toList.drop 24 = dktX6_planGoes_1 := dk_seg dksX6_planGoes_0 24 rfl rfl
theorem dksX6_planGoes_2 : cX6_planGoes.data.toList.drop 48 = dktX6_planGoes_2 := dk_seg dksX6_planGoes_1 24 rfl rfl
theorem dX6_planGoes_0 : decode cX6_planGoes 0 = .ok (.aload_n 0, 1) := dk_42 (dk_at dksX6_planGoes_0 0 rfl rfl)
theorem dX6_planGoes_1 : decode cX6_planGoes 1 = .ok (.getfield 7, 3) := dk_180 0 7 (dk_at dksX6_planGoes_0 1 rfl rfl)
theorem dX6_planGoes_4 : decode cX6_planGoes 4 = .ok (.iconst 4, 1) := dk_7 (dk_at dksX6_planGoes_0 4 rfl rfl)
theorem dX6_planGoes_5 : decode cX6_planGoes 5 = .ok (.dup2, 1) := dk_92 (dk_at dksX6_planGoes_0 5 rfl rfl)
theorem dX6_planGoes_6 : decode cX6_planGoes 6 = .ok (.iaload, 1) := dk_46 (dk_at dksX6_planGoes_0 6 rfl rfl)
theorem dX6_planGoes_7 : decode cX6_planGoes 7 = .ok (.iconst 1, 1) := dk_4 (dk_at dksX6_planGoes_0 7 rfl rfl)
theorem dX6_planGoes_8 : decode cX6_planGoes 8 = .ok (.isub, 1) := dk_100 (dk_at dksX6_planGoes_0 8 rfl rfl)
theorem dX6_planGoes_9 : decode cX6_planGoes 9 = .ok (.iastore, 1) := dk_79 (dk_at dksX6_planGoes_0 9 rfl rfl)
theorem dX6_planGoes_10 : decode cX6_planGoes 10 = .ok (.iload_n 1, 1) := dk_27 (dk_at dksX6_planGoes_0 10 rfl rfl)
theorem dX6_planGoes_11 : decode cX6_planGoes 11 = .ok (.istore_n 2, 1) := dk_61 (dk_at dksX6_planGoes_0 11 rfl rfl)
theorem dX6_planGoes_12 : decode cX6_planGoes 12 = .ok (.iload_n 2, 1) := dk_28 (dk_at dksX6_planGoes_0 12 rfl rfl)
theorem dX6_planGoes_13 : decode cX6_planGoes 13 = .ok (.aload_n 0, 1) := dk_42 (dk_at dksX6_planGoes_0 13 rfl rfl)
theorem dX6_planGoes_14 : decode cX6_planGoes 14 = .ok (.getfield 7, 3) := dk_180 0 7 (dk_at dksX6_planGoes_0 14 rfl rfl)
theorem dX6_planGoes_17 : decode cX6_planGoes 17 = .ok (.iconst 4, 1) := dk_7 (dk_at dksX6_planGoes_0 17 rfl rfl)
theorem dX6_planGoes_18 : decode cX6_planGoes 18 = .ok (.iaload, 1) := dk_46 (dk_at dksX6_planGoes_0 18 rfl rfl)
theorem dX6_planGoes_19 : decode cX6_planGoes 19 = .ok (.if_icmp .ge 17, 3) := dk_162 0 17 (dk_at dksX6_planGoes_0 19 rfl rfl)
theorem dX6_planGoes_22 : decode cX6_planGoes 22 = .ok (.aload_n 0, 1) := dk_42 (dk_at dksX6_planGoes_0 22 rfl rfl)
theorem dX6_planGoes_23 : decode cX6_planGoes 23 = .ok (.iload_n 2, 1) := dk_28 (dk_at dksX6_planGoes_0 23 rfl rfl)
theorem dX6_planGoes_24 : decode cX6_planGoes 24 = .ok (.iconst 1, 1) := dk_4 (dk_at dksX6_planGoes_1 0 rfl rfl)
theorem dX6_planGoes_25 : decode cX6_planGoes 25 = .ok (.iadd, 1) := dk_96 (dk_at dksX6_planGoes_1 1 rfl rfl)
theorem dX6_planGoes_26 : decode cX6_planGoes 26 = .ok (.iload_n 2, 1) := dk_28 (dk_at dksX6_planGoes_1 2 rfl rfl)
theorem dX6_planGoes_27 : decode cX6_planGoes 27 = .ok (.invokevirtual 173, 3) := dk_182 0 173 (dk_at dksX6_planGoes_1 3 rfl rfl)
theorem dX6_planGoes_30 : decode cX6_planGoes 30 = .ok (.iinc 2 1, 3) := dk_132 2 1 (dk_at dksX6_planGoes_1 6 rfl rfl)
theorem dX6_planGoes_33 : decode cX6_planGoes 33 = .ok (.goto (-21), 3) := dk_167 255 235 (dk_at dksX6_planGoes_1 9 rfl rfl)
theorem dX6_planGoes_36 : decode cX6_planGoes 36 = .ok (.iconst 0, 1) := dk_3 (dk_at dksX6_planGoes_1 12 rfl rfl)
theorem dX6_planGoes_37 : decode cX6_planGoes 37 = .ok (.istore_n 2, 1) := dk_61 (dk_at dksX6_planGoes_1 13 rfl rfl)
theorem dX6_planGoes_38 : decode cX6_planGoes 38 = .ok (.iload_n 2, 1) := dk_28 (dk_at dksX6_planGoes_1 14 rfl rfl)
theorem dX6_planGoes_39 : decode cX6_planGoes 39 = .ok (.iconst 3, 1) := dk_6 (dk_at dksX6_planGoes_1 15 rfl rfl)
theorem dX6_planGoes_40 : decode cX6_planGoes 40 = .ok (.if_icmp .ge 21, 3) := dk_162 0 21 (dk_at dksX6_planGoes_1 16 rfl rfl)
theorem dX6_planGoes_43 : decode cX6_planGoes 43 = .ok (.aload_n 0, 1) := dk_42 (dk_at dksX6_planGoes_1 19 rfl rfl)
theorem dX6_planGoes_44 : decode cX6_planGoes 44 = .ok (.aload_n 0, 1) := dk_42 (dk_at dksX6_planGoes_1 20 rfl rfl)
theorem dX6_planGoes_45 : decode cX6_planGoes 45 = .ok (.getfield 7, 3) := dk_180 0 7 (dk_at dksX6_planGoes_1 21 rfl rfl)
theorem dX6_planGoes_48 : decode cX6_planGoes 48 = .ok (.iconst 4, 1) := dk_7 (dk_at dksX6_planGoes_2 0 rfl rfl)
theorem dX6_planGoes_49 : decode cX6_planGoes 49 = .ok (.iaload, 1) := dk_46 (dk_at dksX6_planGoes_2 1 rfl rfl)
theorem dX6_planGoes_50 : decode cX6_planGoes 50 = .ok (.iload_n 2, 1) := dk_28 (dk_at dksX6_planGoes_2 2 rfl rfl)
theorem dX6_planGoes_51 : decode cX6_planGoes 51 = .ok (.iconst 0, 1) := dk_3 (dk_at dksX6_planGoes_2 3 rfl rfl)
theorem dX6_planGoes_52 : decode cX6_planGoes 52 = .ok (.invokevirtual 170, 3) := dk_182 0 170 (dk_at dksX6_planGoes_2 4 rfl rfl)
theorem dX6_planGoes_55 : decode cX6_planGoes 55 = .ok (.iinc 2 1, 3) := dk_132 2 1 (dk_at dksX6_planGoes_2 7 rfl rfl)
theorem dX6_planGoes_58 : decode cX6_planGoes 58 = .ok (.goto (-20), 3) := dk_167 255 236 (dk_at dksX6_planGoes_2 10 rfl rfl)
theorem dX6_planGoes_61 : decode cX6_planGoes 61 = .ok (.return_, 1) := dk_177 (dk_at dksX6_planGoes_2 13 rfl rfl)
abbrev kX6_planGoes : KX := (cX6_planGoes, "TissueBalloonsModel", "planGoes", 3, none, [], 2)
abbrev cX6_planAt : ByteArray := prog_14_method_54_code
def yX6_planAt : MethodName := ⟨RX6, "planAt", "(II)I"⟩
def dkwX6_planAt_2 : List UInt8 := [182, 0, 75, 172]
abbrev dktX6_planAt_2 : List UInt8 := dkwX6_planAt_2 ++ []
def dkwX6_planAt_1 : List UInt8 := [182, 0, 75, 172, 28, 3, 5, 184, 0, 83, 153, 0, 12, 42, 27, 28, 182, 0, 167, 167, 0, 8, 42, 5]
abbrev dktX6_planAt_1 : List UInt8 := dkwX6_planAt_1 ++ dktX6_planAt_2
def dkwX6_planAt_0 : List UInt8 := [42, 3, 181, 0, 25, 27, 3, 42, 180, 0, 7, 7, 46, 4, 100, 184, 0, 83, 154, 0, 9, 42, 4]
abbrev dktX6_planAt_0 : List UInt8 := dkwX6_planAt_0 ++ dktX6_planAt_1
theorem dksX6_planAt_0 : cX6_planAt.data.toList.drop 0 = dktX6_planAt_0 := by decide +kernel
theorem dksX6_planAt_1 : cX6_planAt.data.toList.drop 23 = dktX6_planAt_1 := dk_seg dksX6_planAt_0 23 rfl rfl
theorem dksX6_planAt_2 : cX6_planAt.data.toList.drop 47 = dktX6_planAt_2 := dk_seg dksX6_planAt_1 24 rfl rfl
theorem dX6_planAt_0 : decode cX6_planAt 0 = .ok (.aload_n 0, 1) := dk_42 (dk_at dksX6_planAt_0 0 rfl rfl)
theorem dX6_planAt_1 : decode cX6_planAt 1 = .ok (.iconst 0, 1) := dk_3 (dk_at dksX6_planAt_0 1 rfl rfl)
theorem dX6_planAt_2 : decode cX6_planAt 2 = .ok (.putfield 25, 3) := dk_181 0 25 (dk_at dksX6_planAt_0 2 rfl rfl)
theorem dX6_planAt_5 : decode cX6_planAt 5 = .ok (.iload_n 1, 1) := dk_27 (dk_at dksX6_planAt_0 5 rfl rfl)
theorem dX6_planAt_6 : decode cX6_planAt 6 = .ok (.iconst 0, 1) := dk_3 (dk_at dksX6_planAt_0 6 rfl rfl)
theorem dX6_planAt_7 : decode cX6_planAt 7 = .ok (.aload_n 0, 1) := dk_42 (dk_at dksX6_planAt_0 7 rfl rfl)
theorem dX6_planAt_8 : decode cX6_planAt 8 = .ok (.getfield 7, 3) := dk_180 0 7 (dk_at dksX6_planAt_0 8 rfl rfl)
theorem dX6_planAt_11 : decode cX6_planAt 11 = .ok (.iconst 4, 1) := dk_7 (dk_at dksX6_planAt_0 11 rfl rfl)
theorem dX6_planAt_12 : decode cX6_planAt 12 = .ok (.iaload, 1) := dk_46 (dk_at dksX6_planAt_0 12 rfl rfl)
theorem dX6_planAt_13 : decode cX6_planAt 13 = .ok (.iconst 1, 1) := dk_4 (dk_at dksX6_planAt_0 13 rfl rfl)
theorem dX6_planAt_14 : decode cX6_planAt 14 = .ok (.isub, 1) := dk_100 (dk_at dksX6_planAt_0 14 rfl rfl)
theorem dX6_planAt_15 : decode cX6_planAt 15 = .ok (.invokestatic 83, 3) := dk_184 0 83 (dk_at dksX6_planAt_0 15 rfl rfl)
theorem dX6_planAt_18 : decode cX6_planAt 18 = .ok (.ifCond .ne 9, 3) := dk_154 0 9 (dk_at dksX6_planAt_0 18 rfl rfl)
theorem dX6_planAt_21 : decode cX6_planAt 21 = .ok (.aload_n 0, 1) := dk_42 (dk_at dksX6_planAt_0 21 rfl rfl)
theorem dX6_planAt_22 : decode cX6_planAt 22 = .ok (.iconst 1, 1) := dk_4 (dk_at dksX6_planAt_0 22 rfl rfl)
theorem dX6_planAt_23 : decode cX6_planAt 23 = .ok (.invokevirtual 75, 3) := dk_182 0 75 (dk_at dksX6_planAt_1 0 rfl rfl)
theorem dX6_planAt_26 : decode cX6_planAt 26 = .ok (.ireturn, 1) := dk_172 (dk_at dksX6_planAt_1 3 rfl rfl)
theorem dX6_planAt_27 : decode cX6_planAt 27 = .ok (.iload_n 2, 1) := dk_28 (dk_at dksX6_planAt_1 4 rfl rfl)
theorem dX6_planAt_28 : decode cX6_planAt 28 = .ok (.iconst 0, 1) := dk_3 (dk_at dksX6_planAt_1 5 rfl rfl)
theorem dX6_planAt_29 : decode cX6_planAt 29 = .ok (.iconst 2, 1) := dk_5 (dk_at dksX6_planAt_1 6 rfl rfl)
theorem dX6_planAt_30 : decode cX6_planAt 30 = .ok (.invokestatic 83, 3) := dk_184 0 83 (dk_at dksX6_planAt_1 7 rfl rfl)
theorem dX6_planAt_33 : decode cX6_planAt 33 = .ok (.ifCond .eq 12, 3) := dk_153 0 12 (dk_at dksX6_planAt_1 10 rfl rfl)
theorem dX6_planAt_36 : decode cX6_planAt 36 = .ok (.aload_n 0, 1) := dk_42 (dk_at dksX6_planAt_1 13 rfl rfl)
theorem dX6_planAt_37 : decode cX6_planAt 37 = .ok (.iload_n 1, 1) := dk_27 (dk_at dksX6_planAt_1 14 rfl rfl)
theorem dX6_planAt_38 : decode cX6_planAt 38 = .ok (.iload_n 2, 1) := dk_28 (dk_at dksX6_planAt_1 15 rfl rfl)
theorem dX6_planAt_39 : decode cX6_planAt 39 = .ok (.invokevirtual 167, 3) := dk_182 0 167 (dk_at dksX6_planAt_1 16 rfl rfl)
theorem dX6_planAt_42 : decode cX6_planAt 42 = .ok (.goto 8, 3) := dk_167 0 8 (dk_at dksX6_planAt_1 19 rfl rfl)
theorem dX6_planAt_45 : decode cX6_planAt 45 = .ok (.aload_n 0, 1) := dk_42 (dk_at dksX6_planAt_1 22 rfl rfl)
theorem dX6_planAt_46 : decode cX6_planAt 46 = .ok (.iconst 2, 1) := dk_5 (dk_at dksX6_planAt_1 23 rfl rfl)
theorem dX6_planAt_47 : decode cX6_planAt 47 = .ok (.invokevirtual 75, 3) := dk_182 0 75 (dk_at dksX6_planAt_2 0 rfl rfl)
theorem dX6_planAt_50 : decode cX6_planAt 50 = .ok (.ireturn, 1) := dk_172 (dk_at dksX6_planAt_2 3 rfl rfl)
abbrev kX6_planAt : KX := (cX6_planAt, "TissueBalloonsModel", "planAt", 3, some .int, [], 1)
abbrev cX6_balloonOf : ByteArray := prog_14_method_55_code
def yX6_balloonOf : MethodName := ⟨RX6, "balloonOf", "(II)I"⟩
def dkwX6_balloonOf_1 : List UInt8 := [184, 0, 83, 153, 0, 12, 42, 27, 28, 182, 0, 140, 167, 0, 8, 42, 5, 182, 0, 75, 172]
abbrev dktX6_balloonOf_1 : List UInt8 := dkwX6_balloonOf_1 ++ []
def dkwX6_balloonOf_0 : List UInt8 := [42, 3, 181, 0, 25, 42, 27, 182, 0, 158, 154, 0, 9, 42, 4, 182, 0, 75, 172, 28, 3, 16, 6]
abbrev dktX6_balloonOf_0 : List UInt8 := dkwX6_balloonOf_0 ++ dktX6_balloonOf_1
theorem dksX6_balloonOf_0 : cX6_balloonOf.data.toList.drop 0 = dktX6_balloonOf_0 := by decide +kernel
theorem dksX6_balloonOf_1 : cX6_balloonOf.data.toList.drop 23 = dktX6_balloonOf_1 := dk_seg dksX6_balloonOf_0 23 rfl rfl
theorem dX6_balloonOf_0 : decode cX6_balloonOf 0 = .ok (.aload_n 0, 1) := dk_42 (dk_at dksX6_balloonOf_0 0 rfl rfl)
theorem dX6_balloonOf_1 : decode cX6_balloonOf 1 = .ok (.iconst 0, 1) := dk_3 (dk_at dksX6_balloonOf_0 1 rfl rfl)
theorem dX6_balloonOf_2 : decode cX6_balloonOf 2 = .ok (.putfield 25, 3) := dk_181 0 25 (dk_at dksX6_balloonOf_0 2 rfl rfl)
theorem dX6_balloonOf_5 : decode cX6_balloonOf 5 = .ok (.aload_n 0, 1) := dk_42 (dk_at dksX6_balloonOf_0 5 rfl rfl)
theorem dX6_balloonOf_6 : decode cX6_balloonOf 6 = .ok (.iload_n 1, 1) := dk_27 (dk_at dksX6_balloonOf_0 6 rfl rfl)
theorem dX6_balloonOf_7 : decode cX6_balloonOf 7 = .ok (.invokevirtual 158, 3) := dk_182 0 158 (dk_at dksX6_balloonOf_0 7 rfl rfl)
theorem dX6_balloonOf_10 : decode cX6_balloonOf 10 = .ok (.ifCond .ne 9, 3) := dk_154 0 9 (dk_at dksX6_balloonOf_0 10 rfl rfl)
theorem dX6_balloonOf_13 : decode cX6_balloonOf 13 = .ok (.aload_n 0, 1) := dk_42 (dk_at dksX6_balloonOf_0 13 rfl rfl)
theorem dX6_balloonOf_14 : decode cX6_balloonOf 14 = .ok (.iconst 1, 1) := dk_4 (dk_at dksX6_balloonOf_0 14 rfl rfl)
theorem dX6_balloonOf_15 : decode cX6_balloonOf 15 = .ok (.invokevirtual 75, 3) := dk_182 0 75 (dk_at dksX6_balloonOf_0 15 rfl rfl)
theorem dX6_balloonOf_18 : decode cX6_balloonOf 18 = .ok (.ireturn, 1) := dk_172 (dk_at dksX6_balloonOf_0 18 rfl rfl)
theorem dX6_balloonOf_19 : decode cX6_balloonOf 19 = .ok (.iload_n 2, 1) := dk_28 (dk_at dksX6_balloonOf_0 19 rfl rfl)
theorem dX6_balloonOf_20 : decode cX6_balloonOf 20 = .ok (.iconst 0, 1) := dk_3 (dk_at dksX6_balloonOf_0 20 rfl rfl)
theorem dX6_balloonOf_21 : decode cX6_balloonOf 21 = .ok (.bipush 6, 2) := dk_16 6 (dk_at dksX6_balloonOf_0 21 rfl rfl)
theorem dX6_balloonOf_23 : decode cX6_balloonOf 23 = .ok (.invokestatic 83, 3) := dk_184 0 83 (dk_at dksX6_balloonOf_1 0 rfl rfl)
theorem dX6_balloonOf_26 : decode cX6_balloonOf 26 = .ok (.ifCond .eq 12, 3) := dk_153 0 12 (dk_at dksX6_balloonOf_1 3 rfl rfl)
theorem dX6_balloonOf_29 : decode cX6_balloonOf 29 = .ok (.aload_n 0, 1) := dk_42 (dk_at dksX6_balloonOf_1 6 rfl rfl)
theorem dX6_balloonOf_30 : decode cX6_balloonOf 30 = .ok (.iload_n 1, 1) := dk_27 (dk_at dksX6_balloonOf_1 7 rfl rfl)
theorem dX6_balloonOf_31 : decode cX6_balloonOf 31 = .ok (.iload_n 2, 1) := dk_28 (dk_at dksX6_balloonOf_1 8 rfl rfl)
theorem dX6_balloonOf_32 : decode cX6_balloonOf 32 = .ok (.invokevirtual 140, 3) := dk_182 0 140 (dk_at dksX6_balloonOf_1 9 rfl rfl)
theorem dX6_balloonOf_35 : decode cX6_balloonOf 35 = .ok (.goto 8, 3) := dk_167 0 8 (dk_at dksX6_balloonOf_1 12 rfl rfl)
theorem dX6_balloonOf_38 : decode cX6_balloonOf 38 = .ok (.aload_n 0, 1) := dk_42 (dk_at dksX6_balloonOf_1 15 rfl rfl)
theorem dX6_balloonOf_39 : decode cX6_balloonOf 39 = .ok (.iconst 2, 1) := dk_5 (dk_at dksX6_balloonOf_1 16 rfl rfl)
theorem dX6_balloonOf_40 : decode cX6_balloonOf 40 = .ok (.invokevirtual 75, 3) := dk_182 0 75 (dk_at dksX6_balloonOf_1 17 rfl rfl)
theorem dX6_balloonOf_43 : decode cX6_balloonOf 43 = .ok (.ireturn, 1) := dk_172 (dk_at dksX6_balloonOf_1 20 rfl rfl)
abbrev kX6_balloonOf : KX := (cX6_balloonOf, "TissueBalloonsModel", "balloonOf", 3, some .int, [], 2)
abbrev cX6_highest : ByteArray := prog_14_method_56_code
def yX6_highest : MethodName := ⟨RX6, "highest", "(I)I"⟩
def dkwX6_highest_3 : List UInt8 := [167, 255, 196, 42, 4, 182, 0, 75, 172]
abbrev dktX6_highest_3 : List UInt8 := dkwX6_highest_3 ++ []
def dkwX6_highest_2 : List UInt8 := [167, 0, 13, 28, 154, 0, 6, 21, 4, 172, 132, 2, 255, 132, 4, 1, 167, 255, 209, 132, 3, 255]
abbrev dktX6_highest_2 : List UInt8 := dkwX6_highest_2 ++ dktX6_highest_3
def dkwX6_highest_1 : List UInt8 := [162, 0, 42, 42, 21, 4, 182, 0, 143, 153, 0, 27, 42, 21, 4, 7, 182, 0, 140, 29, 159, 0, 6]
abbrev dktX6_highest_1 : List UInt8 := dkwX6_highest_1 ++ dktX6_highest_2
def dkwX6_highest_0 : List UInt8 := [42, 3, 181, 0, 25, 27, 61, 6, 62, 29, 155, 0, 62, 3, 54, 4, 21, 4, 42, 180, 0, 7, 5, 46]
abbrev dktX6_highest_0 : List UInt8 := dkwX6_highest_0 ++ dktX6_highest_1
theorem dksX6_highest_0 : cX6_highest.data.toList.drop 0 = dktX6_highest_0 := by decide +kernel
theorem dksX6_highest_1 : cX6_highest.data.toList.drop 24 = dktX6_highest_1 := dk_seg dksX6_highest_0 24 rfl rfl
theorem dksX6_highest_2 : cX6_highest.data.toList.drop 47 = dktX6_highest_2 := dk_seg dksX6_highest_1 23 rfl rfl
theorem dksX6_highest_3 : cX6_highest.data.toList.drop 69 = dktX6_highest_3 := dk_seg dksX6_highest_2 22 rfl rfl
theorem dX6_highest_0 : decode cX6_highest 0 = .ok (.aload_n 0, 1) := dk_42 (dk_at dksX6_highest_0 0 rfl rfl)
theorem dX6_highest_1 : decode cX6_highest 1 = .ok (.iconst 0, 1) := dk_3 (dk_at dksX6_highest_0 1 rfl rfl)
theorem dX6_highest_2 : decode cX6_highest 2 = .ok (.putfield 25, 3) := dk_181 0 25 (dk_at dksX6_highest_0 2 rfl rfl)
theorem dX6_highest_5 : decode cX6_highest 5 = .ok (.iload_n 1, 1) := dk_27 (dk_at dksX6_highest_0 5 rfl rfl)
theorem dX6_highest_6 : decode cX6_highest 6 = .ok (.istore_n 2, 1) := dk_61 (dk_at dksX6_highest_0 6 rfl rfl)
theorem dX6_highest_7 : decode cX6_highest 7 = .ok (.iconst 3, 1) := dk_6 (dk_at dksX6_highest_0 7 rfl rfl)
theorem dX6_highest_8 : decode cX6_highest 8 = .ok (.istore_n 3, 1) := dk_62 (dk_at dksX6_highest_0 8 rfl rfl)
theorem dX6_highest_9 : decode cX6_highest 9 = .ok (.iload_n 3, 1) := dk_29 (dk_at dksX6_highest_0 9 rfl rfl)
theorem dX6_highest_10 : decode cX6_highest 10 = .ok (.ifCond .lt 62, 3) := dk_155 0 62 (dk_at dksX6_highest_0 10 rfl rfl)
theorem dX6_highest_13 : decode cX6_highest 13 = .ok (.iconst 0, 1) := dk_3 (dk_at dksX6_highest_0 13 rfl rfl)
theorem dX6_highest_14 : decode cX6_highest 14 = .ok (.istore 4, 2) := dk_54 4 (dk_at dksX6_highest_0 14 rfl rfl)
theorem dX6_highest_16 : decode cX6_highest 16 = .ok (.iload 4, 2) := dk_21 4 (dk_at dksX6_highest_0 16 rfl rfl)
theorem dX6_highest_18 : decode cX6_highest 18 = .ok (.aload_n 0, 1) := dk_42 (dk_at dksX6_highest_0 18 rfl rfl)
theorem dX6_highest_19 : decode cX6_highest 19 = .ok (.getfield 7, 3) := dk_180 0 7 (dk_at dksX6_highest_0 19 rfl rfl)
theorem dX6_highest_22 : decode cX6_highest 22 = .ok (.iconst 2, 1) := dk_5 (dk_at dksX6_highest_0 22 rfl rfl)
theorem dX6_highest_23 : decode cX6_highest 23 = .ok (.iaload, 1) := dk_46 (dk_at dksX6_highest_0 23 rfl rfl)
theorem dX6_highest_24 : decode cX6_highest 24 = .ok (.if_icmp .ge 42, 3) := dk_162 0 42 (dk_at dksX6_highest_1 0 rfl rfl)
theorem dX6_highest_27 : decode cX6_highest 27 = .ok (.aload_n 0, 1) := dk_42 (dk_at dksX6_highest_1 3 rfl rfl)
theorem dX6_highest_28 : decode cX6_highest 28 = .ok (.iload 4, 2) := dk_21 4 (dk_at dksX6_highest_1 4 rfl rfl)
theorem dX6_highest_30 : decode cX6_highest 30 = .ok (.invokevirtual 143, 3) := dk_182 0 143 (dk_at dksX6_highest_1 6 rfl rfl)
theorem dX6_highest_33 : decode cX6_highest 33 = .ok (.ifCond .eq 27, 3) := dk_153 0 27 (dk_at dksX6_highest_1 9 rfl rfl)
theorem dX6_highest_36 : decode cX6_highest 36 = .ok (.aload_n 0, 1) := dk_42 (dk_at dksX6_highest_1 12 rfl rfl)
theorem dX6_highest_37 : decode cX6_highest 37 = .ok (.iload 4, 2) := dk_21 4 (dk_at dksX6_highest_1 13 rfl rfl)
theorem dX6_highest_39 : decode cX6_highest 39 = .ok (.iconst 4, 1) := dk_7 (dk_at dksX6_highest_1 15 rfl rfl)
theorem dX6_highest_40 : decode cX6_highest 40 = .ok (.invokevirtual 140, 3) := dk_182 0 140 (dk_at dksX6_highest_1 16 rfl rfl)
theorem dX6_highest_43 : decode cX6_highest 43 = .ok (.iload_n 3, 1) := dk_29 (dk_at dksX6_highest_1 19 rfl rfl)
theorem dX6_highest_44 : decode cX6_highest 44 = .ok (.if_icmp .eq 6, 3) := dk_159 0 6 (dk_at dksX6_highest_1 20 rfl rfl)
theorem dX6_highest_47 : decode cX6_highest 47 = .ok (.goto 13, 3) := dk_167 0 13 (dk_at dksX6_highest_2 0 rfl rfl)
theorem dX6_highest_50 : decode cX6_highest 50 = .ok (.iload_n 2, 1) := dk_28 (dk_at dksX6_highest_2 3 rfl rfl)
theorem dX6_highest_51 : decode cX6_highest 51 = .ok (.ifCond .ne 6, 3) := dk_154 0 6 (dk_at dksX6_highest_2 4 rfl rfl)
theorem dX6_highest_54 : decode cX6_highest 54 = .ok (.iload 4, 2) := dk_21 4 (dk_at dksX6_highest_2 7 rfl rfl)
theorem dX6_highest_56 : decode cX6_highest 56 = .ok (.ireturn, 1) := dk_172 (dk_at dksX6_highest_2 9 rfl rfl)
theorem dX6_highest_57 : decode cX6_highest 57 = .ok (.iinc 2 (-1), 3) := dk_132 2 255 (dk_at dksX6_highest_2 10 rfl rfl)
theorem dX6_highest_60 : decode cX6_highest 60 = .ok (.iinc 4 1, 3) := dk_132 4 1 (dk_at dksX6_highest_2 13 rfl rfl)
theorem dX6_highest_63 : decode cX6_highest 63 = .ok (.goto (-47), 3) := dk_167 255 209 (dk_at dksX6_highest_2 16 rfl rfl)
theorem dX6_highest_66 : decode cX6_highest 66 = .ok (.iinc 3 (-1), 3) := dk_132 3 255 (dk_at dksX6_highest_2 19 rfl rfl)
theorem dX6_highest_69 : decode cX6_highest 69 = .ok (.goto (-60), 3) := dk_167 255 196 (dk_at dksX6_highest_3 0 rfl rfl)
theorem dX6_highest_72 : decode cX6_highest 72 = .ok (.aload_n 0, 1) := dk_42 (dk_at dksX6_highest_3 3 rfl rfl)
theorem dX6_highest_73 : decode cX6_highest 73 = .ok (.iconst 1, 1) := dk_4 (dk_at dksX6_highest_3 4 rfl rfl)
theorem dX6_highest_74 : decode cX6_highest 74 = .ok (.invokevirtual 75, 3) := dk_182 0 75 (dk_at dksX6_highest_3 5 rfl rfl)
theorem dX6_highest_77 : decode cX6_highest 77 = .ok (.ireturn, 1) := dk_172 (dk_at dksX6_highest_3 8 rfl rfl)
abbrev kX6_highest : KX := (cX6_highest, "TissueBalloonsModel", "highest", 5, some .int, [], 2)
abbrev cX6_ranked : ByteArray := prog_14_method_57_code
def yX6_ranked : MethodName := ⟨RX6, "ranked", "(I)I"⟩
def dkwX6_ranked_4 : List UInt8 := [28, 172, 132, 2, 1, 167, 255, 164, 42, 4, 182, 0, 75, 172]
abbrev dktX6_ranked_4 : List UInt8 := dkwX6_ranked_4 ++ []
def dkwX6_ranked_3 : List UInt8 := [21, 4, 28, 162, 0, 7, 4, 167, 0, 4, 3, 96, 62, 132, 4, 1, 167, 255, 192, 29, 27, 160, 0, 5]
abbrev dktX6_ranked_3 : List UInt8 := dkwX6_ranked_3 ++ dktX6_ranked_4
def dkwX6_ranked_2 : List UInt8 := [182, 0, 140, 163, 0, 27, 42, 21, 4, 16, 6, 182, 0, 140, 42, 28, 16, 6, 182, 0, 140, 160, 0, 13]
abbrev dktX6_ranked_2 : List UInt8 := dkwX6_ranked_2 ++ dktX6_ranked_3
def dkwX6_ranked_1 : List UInt8 := [42, 180, 0, 7, 5, 46, 162, 0, 59, 29, 42, 21, 4, 16, 6, 182, 0, 140, 42, 28, 16, 6]
abbrev dktX6_ranked_1 : List UInt8 := dkwX6_ranked_1 ++ dktX6_ranked_2
def dkwX6_ranked_0 : List UInt8 := [42, 3, 181, 0, 25, 3, 61, 28, 42, 180, 0, 7, 5, 46, 162, 0, 88, 3, 62, 3, 54, 4, 21, 4]
abbrev dktX6_ranked_0 : List UInt8 := dkwX6_ranked_0 ++ dktX6_ranked_1
theorem dksX6_ranked_0 : cX6_ranked.data.toList.drop 0 = dktX6_ranked_0 := by decide +kernel
theorem dksX6_ranked_1 : cX6_ranked.data.toList.drop 24 = dktX6_ranked_1 := dk_seg dksX6_ranked_0 24 rfl rfl
theorem dksX6_ranked_2 : cX6_ranked.data.toList.drop 46 = dktX6_ranked_2 := dk_seg dksX6_ranked_1 22 rfl rfl
theorem dksX6_ranked_3 : cX6_ranked.data.toList.drop 70 = dktX6_ranked_3 := dk_seg dksX6_ranked_2 24 rfl rfl
theorem dksX6_ranked_4 : cX6_ranked.data.toList.drop 94 = dktX6_ranked_4 := dk_seg dksX6_ranked_3 24 rfl rfl
theorem dX6_ranked_0 : decode cX6_ranked 0 = .ok (.aload_n 0, 1) := dk_42 (dk_at dksX6_ranked_0 0 rfl rfl)
theorem dX6_ranked_1 : decode cX6_ranked 1 = .ok (.iconst 0, 1) := dk_3 (dk_at dksX6_ranked_0 1 rfl rfl)
theorem dX6_ranked_2 : decode cX6_ranked 2 = .ok (.putfield 25, 3) := dk_181 0 25 (dk_at dksX6_ranked_0 2 rfl rfl)
theorem dX6_ranked_5 : decode cX6_ranked 5 = .ok (.iconst 0, 1) := dk_3 (dk_at dksX6_ranked_0 5 rfl rfl)
theorem dX6_ranked_6 : decode cX6_ranked 6 = .ok (.istore_n 2, 1) := dk_61 (dk_at dksX6_ranked_0 6 rfl rfl)
theorem dX6_ranked_7 : decode cX6_ranked 7 = .ok (.iload_n 2, 1) := dk_28 (dk_at dksX6_ranked_0 7 rfl rfl)
theorem dX6_ranked_8 : decode cX6_ranked 8 = .ok (.aload_n 0, 1) := dk_42 (dk_at dksX6_ranked_0 8 rfl rfl)
theorem dX6_ranked_9 : decode cX6_ranked 9 = .ok (.getfield 7, 3) := dk_180 0 7 (dk_at dksX6_ranked_0 9 rfl rfl)
theorem dX6_ranked_12 : decode cX6_ranked 12 = .ok (.iconst 2, 1) := dk_5 (dk_at dksX6_ranked_0 12 rfl rfl)
theorem dX6_ranked_13 : decode cX6_ranked 13 = .ok (.iaload, 1) := dk_46 (dk_at dksX6_ranked_0 13 rfl rfl)
theorem dX6_ranked_14 : decode cX6_ranked 14 = .ok (.if_icmp .ge 88, 3) := dk_162 0 88 (dk_at dksX6_ranked_0 14 rfl rfl)
theorem dX6_ranked_17 : decode cX6_ranked 17 = .ok (.iconst 0, 1) := dk_3 (dk_at dksX6_ranked_0 17 rfl rfl)
theorem dX6_ranked_18 : decode cX6_ranked 18 = .ok (.istore_n 3, 1) := dk_62 (dk_at dksX6_ranked_0 18 rfl rfl)
theorem dX6_ranked_19 : decode cX6_ranked 19 = .ok (.iconst 0, 1) := dk_3 (dk_at dksX6_ranked_0 19 rfl rfl)
theorem dX6_ranked_20 : decode cX6_ranked 20 = .ok (.istore 4, 2) := dk_54 4 (dk_at dksX6_ranked_0 20 rfl rfl)
theorem dX6_ranked_22 : decode cX6_ranked 22 = .ok (.iload 4, 2) := dk_21 4 (dk_at dksX6_ranked_0 22 rfl rfl)
theorem dX6_ranked_24 : decode cX6_ranked 24 = .ok (.aload_n 0, 1) := dk_42 (dk_at dksX6_ranked_1 0 rfl rfl)
theorem dX6_ranked_25 : decode cX6_ranked 25 = .ok (.getfield 7, 3) := dk_180 0 7 (dk_at dksX6_ranked_1 1 rfl rfl)
theorem dX6_ranked_28 : decode cX6_ranked 28 = .ok (.iconst 2, 1) := dk_5 (dk_at dksX6_ranked_1 4 rfl rfl)
theorem dX6_ranked_29 : decode cX6_ranked 29 = .ok (.iaload, 1) := dk_46 (dk_at dksX6_ranked_1 5 rfl rfl)
theorem dX6_ranked_30 : decode cX6_ranked 30 = .ok (.if_icmp .ge 59, 3) := dk_162 0 59 (dk_at dksX6_ranked_1 6 rfl rfl)
theorem dX6_ranked_33 : decode cX6_ranked 33 = .ok (.iload_n 3, 1) := dk_29 (dk_at dksX6_ranked_1 9 rfl rfl)
theorem dX6_ranked_34 : decode cX6_ranked 34 = .ok (.aload_n 0, 1) := dk_42 (dk_at dksX6_ranked_1 10 rfl rfl)
theorem dX6_ranked_35 : decode cX6_ranked 35 = .ok (.iload 4, 2) := dk_21 4 (dk_at dksX6_ranked_1 11 rfl rfl)
theorem dX6_ranked_37 : decode cX6_ranked 37 = .ok (.bipush 6, 2) := dk_16 6 (dk_at dksX6_ranked_1 13 rfl rfl)
theorem dX6_ranked_39 : decode cX6_ranked 39 = .ok (.invokevirtual 140, 3) := dk_182 0 140 (dk_at dksX6_ranked_1 15 rfl rfl)
theorem dX6_ranked_42 : decode cX6_ranked 42 = .ok (.aload_n 0, 1) := dk_42 (dk_at dksX6_ranked_1 18 rfl rfl)
theorem dX6_ranked_43 : decode cX6_ranked 43 = .ok (.iload_n 2, 1) := dk_28 (dk_at dksX6_ranked_1 19 rfl rfl)
theorem dX6_ranked_44 : decode cX6_ranked 44 = .ok (.bipush 6, 2) := dk_16 6 (dk_at dksX6_ranked_1 20 rfl rfl)
theorem dX6_ranked_46 : decode cX6_ranked 46 = .ok (.invokevirtual 140, 3) := dk_182 0 140 (dk_at dksX6_ranked_2 0 rfl rfl)
theorem dX6_ranked_49 : decode cX6_ranked 49 = .ok (.if_icmp .gt 27, 3) := dk_163 0 27 (dk_at dksX6_ranked_2 3 rfl rfl)
theorem dX6_ranked_52 : decode cX6_ranked 52 = .ok (.aload_n 0, 1) := dk_42 (dk_at dksX6_ranked_2 6 rfl rfl)
theorem dX6_ranked_53 : decode cX6_ranked 53 = .ok (.iload 4, 2) := dk_21 4 (dk_at dksX6_ranked_2 7 rfl rfl)
theorem dX6_ranked_55 : decode cX6_ranked 55 = .ok (.bipush 6, 2) := dk_16 6 (dk_at dksX6_ranked_2 9 rfl rfl)
theorem dX6_ranked_57 : decode cX6_ranked 57 = .ok (.invokevirtual 140, 3) := dk_182 0 140 (dk_at dksX6_ranked_2 11 rfl rfl)
theorem dX6_ranked_60 : decode cX6_ranked 60 = .ok (.aload_n 0, 1) := dk_42 (dk_at dksX6_ranked_2 14 rfl rfl)
theorem dX6_ranked_61 : decode cX6_ranked 61 = .ok (.iload_n 2, 1) := dk_28 (dk_at dksX6_ranked_2 15 rfl rfl)
theorem dX6_ranked_62 : decode cX6_ranked 62 = .ok (.bipush 6, 2) := dk_16 6 (dk_at dksX6_ranked_2 16 rfl rfl)
theorem dX6_ranked_64 : decode cX6_ranked 64 = .ok (.invokevirtual 140, 3) := dk_182 0 140 (dk_at dksX6_ranked_2 18 rfl rfl)
theorem dX6_ranked_67 : decode cX6_ranked 67 = .ok (.if_icmp .ne 13, 3) := dk_160 0 13 (dk_at dksX6_ranked_2 21 rfl rfl)
theorem dX6_ranked_70 : decode cX6_ranked 70 = .ok (.iload 4, 2) := dk_21 4 (dk_at dksX6_ranked_3 0 rfl rfl)
theorem dX6_ranked_72 : decode cX6_ranked 72 = .ok (.iload_n 2, 1) := dk_28 (dk_at dksX6_ranked_3 2 rfl rfl)
theorem dX6_ranked_73 : decode cX6_ranked 73 = .ok (.if_icmp .ge 7, 3) := dk_162 0 7 (dk_at dksX6_ranked_3 3 rfl rfl)
theorem dX6_ranked_76 : decode cX6_ranked 76 = .ok (.iconst 1, 1) := dk_4 (dk_at dksX6_ranked_3 6 rfl rfl)
theorem dX6_ranked_77 : decode cX6_ranked 77 = .ok (.goto 4, 3) := dk_167 0 4 (dk_at dksX6_ranked_3 7 rfl rfl)
theorem dX6_ranked_80 : decode cX6_ranked 80 = .ok (.iconst 0, 1) := dk_3 (dk_at dksX6_ranked_3 10 rfl rfl)
theorem dX6_ranked_81 : decode cX6_ranked 81 = .ok (.iadd, 1) := dk_96 (dk_at dksX6_ranked_3 11 rfl rfl)
theorem dX6_ranked_82 : decode cX6_ranked 82 = .ok (.istore_n 3, 1) := dk_62 (dk_at dksX6_ranked_3 12 rfl rfl)
theorem dX6_ranked_83 : decode cX6_ranked 83 = .ok (.iinc 4 1, 3) := dk_132 4 1 (dk_at dksX6_ranked_3 13 rfl rfl)
theorem dX6_ranked_86 : decode cX6_ranked 86 = .ok (.goto (-64), 3) := dk_167 255 192 (dk_at dksX6_ranked_3 16 rfl rfl)
theorem dX6_ranked_89 : decode cX6_ranked 89 = .ok (.iload_n 3, 1) := dk_29 (dk_at dksX6_ranked_3 19 rfl rfl)
theorem dX6_ranked_90 : decode cX6_ranked 90 = .ok (.iload_n 1, 1) := dk_27 (dk_at dksX6_ranked_3 20 rfl rfl)
theorem dX6_ranked_91 : decode cX6_ranked 91 = .ok (.if_icmp .ne 5, 3) := dk_160 0 5 (dk_at dksX6_ranked_3 21 rfl rfl)
theorem dX6_ranked_94 : decode cX6_ranked 94 = .ok (.iload_n 2, 1) := dk_28 (dk_at dksX6_ranked_4 0 rfl rfl)
theorem dX6_ranked_95 : decode cX6_ranked 95 = .ok (.ireturn, 1) := dk_172 (dk_at dksX6_ranked_4 1 rfl rfl)
theorem dX6_ranked_96 : decode cX6_ranked 96 = .ok (.iinc 2 1, 3) := dk_132 2 1 (dk_at dksX6_ranked_4 2 rfl rfl)
theorem dX6_ranked_99 : decode cX6_ranked 99 = .ok (.goto (-92), 3) := dk_167 255 164 (dk_at dksX6_ranked_4 5 rfl rfl)
theorem dX6_ranked_102 : decode cX6_ranked 102 = .ok (.aload_n 0, 1) := dk_42 (dk_at dksX6_ranked_4 8 rfl rfl)
theorem dX6_ranked_103 : decode cX6_ranked 103 = .ok (.iconst 1, 1) := dk_4 (dk_at dksX6_ranked_4 9 rfl rfl)
theorem dX6_ranked_104 : decode cX6_ranked 104 = .ok (.invokevirtual 75, 3) := dk_182 0 75 (dk_at dksX6_ranked_4 10 rfl rfl)
theorem dX6_ranked_107 : decode cX6_ranked 107 = .ok (.ireturn, 1) := dk_172 (dk_at dksX6_ranked_4 13 rfl rfl)
abbrev kX6_ranked : KX := (cX6_ranked, "TissueBalloonsModel", "ranked", 5, some .int, [], 1)
abbrev cX6_pass : ByteArray := prog_14_method_66_code
def yX6_pass : MethodName := ⟨RX6, "pass", "(I)I"⟩
def dkwX6_pass_1 : List UInt8 := [4, 182, 0, 75, 172]
abbrev dktX6_pass_1 : List UInt8 := dkwX6_pass_1 ++ []
def dkwX6_pass_0 : List UInt8 := [42, 182, 0, 87, 27, 184, 0, 213, 153, 0, 15, 42, 42, 27, 182, 0, 216, 182, 0, 101, 167, 0, 8, 42]
abbrev dktX6_pass_0 : List UInt8 := dkwX6_pass_0 ++ dktX6_pass_1
theorem dksX6_pass_0 : cX6_pass.data.toList.drop 0 = dktX6_pass_0 := by decide +kernel
theorem dksX6_pass_1 : cX6_pass.data.toList.drop 24 = dktX6_pass_1 := dk_seg dksX6_pass_0 24 rfl rfl
theorem dX6_pass_0 : decode cX6_pass 0 = .ok (.aload_n 0, 1) := dk_42 (dk_at dksX6_pass_0 0 rfl rfl)
theorem dX6_pass_1 : decode cX6_pass 1 = .ok (.invokevirtual 87, 3) := dk_182 0 87 (dk_at dksX6_pass_0 1 rfl rfl)
theorem dX6_pass_4 : decode cX6_pass 4 = .ok (.iload_n 1, 1) := dk_27 (dk_at dksX6_pass_0 4 rfl rfl)
theorem dX6_pass_5 : decode cX6_pass 5 = .ok (.invokestatic 213, 3) := dk_184 0 213 (dk_at dksX6_pass_0 5 rfl rfl)
theorem dX6_pass_8 : decode cX6_pass 8 = .ok (.ifCond .eq 15, 3) := dk_153 0 15 (dk_at dksX6_pass_0 8 rfl rfl)
theorem dX6_pass_11 : decode cX6_pass 11 = .ok (.aload_n 0, 1) := dk_42 (dk_at dksX6_pass_0 11 rfl rfl)
theorem dX6_pass_12 : decode cX6_pass 12 = .ok (.aload_n 0, 1) := dk_42 (dk_at dksX6_pass_0 12 rfl rfl)
theorem dX6_pass_13 : decode cX6_pass 13 = .ok (.iload_n 1, 1) := dk_27 (dk_at dksX6_pass_0 13 rfl rfl)
theorem dX6_pass_14 : decode cX6_pass 14 = .ok (.invokevirtual 216, 3) := dk_182 0 216 (dk_at dksX6_pass_0 14 rfl rfl)
theorem dX6_pass_17 : decode cX6_pass 17 = .ok (.invokevirtual 101, 3) := dk_182 0 101 (dk_at dksX6_pass_0 17 rfl rfl)
theorem dX6_pass_20 : decode cX6_pass 20 = .ok (.goto 8, 3) := dk_167 0 8 (dk_at dksX6_pass_0 20 rfl rfl)
theorem dX6_pass_23 : decode cX6_pass 23 = .ok (.aload_n 0, 1) := dk_42 (dk_at dksX6_pass_0 23 rfl rfl)
theorem dX6_pass_24 : decode cX6_pass 24 = .ok (.iconst 1, 1) := dk_4 (dk_at dksX6_pass_1 0 rfl rfl)
theorem dX6_pass_25 : decode cX6_pass 25 = .ok (.invokevirtual 75, 3) := dk_182 0 75 (dk_at dksX6_pass_1 1 rfl rfl)
theorem dX6_pass_28 : decode cX6_pass 28 = .ok (.ireturn, 1) := dk_172 (dk_at dksX6_pass_1 4 rfl rfl)
abbrev kX6_pass : KX := (cX6_pass, "TissueBalloonsModel", "pass", 2, some .int, [], 7)
abbrev cX6_areMinutes : ByteArray := prog_14_method_64_code
def yX6_areMinutes : MethodName := ⟨RX6, "areMinutes", "(I)Z"⟩
def dkwX6_areMinutes_0 : List UInt8 := [26, 4, 16, 60, 184, 0, 83, 172]
abbrev dktX6_areMinutes_0 : List UInt8 := dkwX6_areMinutes_0 ++ []
theorem dksX6_areMinutes_0 : cX6_areMinutes.data.toList.drop 0 = dktX6_areMinutes_0 := by decide +kernel
theorem dX6_areMinutes_0 : decode cX6_areMinutes 0 = .ok (.iload_n 0, 1) := dk_26 (dk_at dksX6_areMinutes_0 0 rfl rfl)
theorem dX6_areMinutes_1 : decode cX6_areMinutes 1 = .ok (.iconst 1, 1) := dk_4 (dk_at dksX6_areMinutes_0 1 rfl rfl)
theorem dX6_areMinutes_2 : decode cX6_areMinutes 2 = .ok (.bipush 60, 2) := dk_16 60 (dk_at dksX6_areMinutes_0 2 rfl rfl)
theorem dX6_areMinutes_4 : decode cX6_areMinutes 4 = .ok (.invokestatic 83, 3) := dk_184 0 83 (dk_at dksX6_areMinutes_0 4 rfl rfl)
theorem dX6_areMinutes_7 : decode cX6_areMinutes 7 = .ok (.ireturn, 1) := dk_172 (dk_at dksX6_areMinutes_0 7 rfl rfl)
abbrev kX6_areMinutes : KX := (cX6_areMinutes, "TissueBalloonsModel", "areMinutes", 1, some .boolean, [], 1)
abbrev cX6_goes : ByteArray := prog_14_method_65_code
def yX6_goes : MethodName := ⟨RX6, "goes", "(I)I"⟩
def dkwX6_goes_0 : List UInt8 := [3, 61, 3, 62, 29, 27, 162, 0, 16, 28, 42, 182, 0, 209, 96, 61, 132, 3, 1, 167, 255, 241, 28, 172]
abbrev dktX6_goes_0 : List UInt8 := dkwX6_goes_0 ++ []
theorem dksX6_goes_0 : cX6_goes.data.toList.drop 0 = dktX6_goes_0 := by decide +kernel
theorem dX6_goes_0 : decode cX6_goes 0 = .ok (.iconst 0, 1) := dk_3 (dk_at dksX6_goes_0 0 rfl rfl)
theorem dX6_goes_1 : decode cX6_goes 1 = .ok (.istore_n 2, 1) := dk_61 (dk_at dksX6_goes_0 1 rfl rfl)
theorem dX6_goes_2 : decode cX6_goes 2 = .ok (.iconst 0, 1) := dk_3 (dk_at dksX6_goes_0 2 rfl rfl)
theorem dX6_goes_3 : decode cX6_goes 3 = .ok (.istore_n 3, 1) := dk_62 (dk_at dksX6_goes_0 3 rfl rfl)
theorem dX6_goes_4 : decode cX6_goes 4 = .ok (.iload_n 3, 1) := dk_29 (dk_at dksX6_goes_0 4 rfl rfl)
theorem dX6_goes_5 : decode cX6_goes 5 = .ok (.iload_n 1, 1) := dk_27 (dk_at dksX6_goes_0 5 rfl rfl)
theorem dX6_goes_6 : decode cX6_goes 6 = .ok (.if_icmp .ge 16, 3) := dk_162 0 16 (dk_at dksX6_goes_0 6 rfl rfl)
theorem dX6_goes_9 : decode cX6_goes 9 = .ok (.iload_n 2, 1) := dk_28 (dk_at dksX6_goes_0 9 rfl rfl)
theorem dX6_goes_10 : decode cX6_goes 10 = .ok (.aload_n 0, 1) := dk_42 (dk_at dksX6_goes_0 10 rfl rfl)
theorem dX6_goes_11 : decode cX6_goes 11 = .ok (.invokevirtual 209, 3) := dk_182 0 209 (dk_at dksX6_goes_0 11 rfl rfl)
theorem dX6_goes_14 : decode cX6_goes 14 = .ok (.iadd, 1) := dk_96 (dk_at dksX6_goes_0 14 rfl rfl)
theorem dX6_goes_15 : decode cX6_goes 15 = .ok (.istore_n 2, 1) := dk_61 (dk_at dksX6_goes_0 15 rfl rfl)
theorem dX6_goes_16 : decode cX6_goes 16 = .ok (.iinc 3 1, 3) := dk_132 3 1 (dk_at dksX6_goes_0 16 rfl rfl)
theorem dX6_goes_19 : decode cX6_goes 19 = .ok (.goto (-15), 3) := dk_167 255 241 (dk_at dksX6_goes_0 19 rfl rfl)
theorem dX6_goes_22 : decode cX6_goes 22 = .ok (.iload_n 2, 1) := dk_28 (dk_at dksX6_goes_0 22 rfl rfl)
theorem dX6_goes_23 : decode cX6_goes 23 = .ok (.ireturn, 1) := dk_172 (dk_at dksX6_goes_0 23 rfl rfl)
abbrev kX6_goes : KX := (cX6_goes, "TissueBalloonsModel", "goes", 4, some .int, [], 6)
abbrev cX6_goesMinute : ByteArray := prog_14_method_63_code
def yX6_goesMinute : MethodName := ⟨RX6, "goesMinute", "()I"⟩
def dkwX6_goesMinute_6 : List UInt8 := [180, 0, 7, 3, 92, 46, 4, 96, 79, 27, 172]
abbrev dktX6_goesMinute_6 : List UInt8 := dkwX6_goesMinute_6 ++ []
def dkwX6_goesMinute_5 : List UInt8 := [28, 4, 3, 42, 28, 4, 182, 0, 104, 4, 100, 184, 0, 197, 182, 0, 120, 132, 2, 1, 167, 255, 211, 42]
abbrev dktX6_goesMinute_5 : List UInt8 := dkwX6_goesMinute_5 ++ dktX6_goesMinute_6
def dkwX6_goesMinute_4 : List UInt8 := [42, 180, 0, 7, 4, 46, 162, 0, 41, 42, 180, 0, 7, 3, 46, 16, 10, 112, 16, 9, 160, 0, 27, 42]
abbrev dktX6_goesMinute_4 : List UInt8 := dkwX6_goesMinute_4 ++ dktX6_goesMinute_5
def dkwX6_goesMinute_3 : List UInt8 := [3, 42, 28, 4, 182, 0, 155, 4, 100, 184, 0, 197, 182, 0, 149, 132, 2, 1, 167, 255, 225, 3, 61, 28]
abbrev dktX6_goesMinute_3 : List UInt8 := dkwX6_goesMinute_3 ++ dktX6_goesMinute_4
def dkwX6_goesMinute_2 : List UInt8 := [4, 96, 60, 132, 2, 1, 167, 255, 211, 3, 61, 28, 42, 180, 0, 7, 6, 46, 162, 0, 27, 42, 28, 4]
abbrev dktX6_goesMinute_2 : List UInt8 := dkwX6_goesMinute_2 ++ dktX6_goesMinute_3
def dkwX6_goesMinute_1 : List UInt8 := [154, 0, 6, 167, 0, 24, 42, 28, 182, 0, 206, 27, 42, 28, 182, 0, 143, 153, 0, 7, 3, 167, 0, 4]
abbrev dktX6_goesMinute_1 : List UInt8 := dkwX6_goesMinute_1 ++ dktX6_goesMinute_2
def dkwX6_goesMinute_0 : List UInt8 := [42, 182, 0, 203, 3, 60, 3, 61, 28, 42, 180, 0, 7, 5, 46, 162, 0, 41, 42, 28, 182, 0, 143]
abbrev dktX6_goesMinute_0 : List UInt8 := dkwX6_goesMinute_0 ++ dktX6_goesMinute_1
theorem dksX6_goesMinute_0 : cX6_goesMinute.data.toList.drop 0 = dktX6_goesMinute_0 := by decide +kernel
theorem dksX6_goesMinute_1 : cX6_goesMinute.data.toList.drop 23 = dktX6_goesMinute_1 := dk_seg dksX6_goesMinute_0 23 rfl rfl
theorem dksX6_goesMinute_2 : cX6_goesMinute.data.toList.drop 47 = dktX6_goesMinute_2 := dk_seg dksX6_goesMinute_1 24 rfl rfl
theorem dksX6_goesMinute_3 : cX6_goesMinute.data.toList.drop 71 = dktX6_goesMinute_3 := dk_seg dksX6_goesMinute_2 24 rfl rfl
theorem dksX6_goesMinute_4 : cX6_goesMinute.data.toList.drop 95 = dktX6_goesMinute_4 := dk_seg dksX6_goesMinute_3 24 rfl rfl
theorem dksX6_goesMinute_5 : cX6_goesMinute.data.toList.drop 119 = dktX6_goesMinute_5 := dk_seg dksX6_goesMinute_4 24 rfl rfl
theorem dksX6_goesMinute_6 : cX6_goesMinute.data.toList.drop 143 = dktX6_goesMinute_6 := dk_seg dksX6_goesMinute_5 24 rfl rfl
theorem dX6_goesMinute_0 : decode cX6_goesMinute 0 = .ok (.aload_n 0, 1) := dk_42 (dk_at dksX6_goesMinute_0 0 rfl rfl)
theorem dX6_goesMinute_1 : decode cX6_goesMinute 1 = .ok (.invokevirtual 203, 3) := dk_182 0 203 (dk_at dksX6_goesMinute_0 1 rfl rfl)
theorem dX6_goesMinute_4 : decode cX6_goesMinute 4 = .ok (.iconst 0, 1) := dk_3 (dk_at dksX6_goesMinute_0 4 rfl rfl)
theorem dX6_goesMinute_5 : decode cX6_goesMinute 5 = .ok (.istore_n 1, 1) := dk_60 (dk_at dksX6_goesMinute_0 5 rfl rfl)
theorem dX6_goesMinute_6 : decode cX6_goesMinute 6 = .ok (.iconst 0, 1) := dk_3 (dk_at dksX6_goesMinute_0 6 rfl rfl)
theorem dX6_goesMinute_7 : decode cX6_goesMinute 7 = .ok (.istore_n 2, 1) := dk_61 (dk_at dksX6_goesMinute_0 7 rfl rfl)
theorem dX6_goesMinute_8 : decode cX6_goesMinute 8 = .ok (.iload_n 2, 1) := dk_28 (dk_at dksX6_goesMinute_0 8 rfl rfl)
theorem dX6_goesMinute_9 : decode cX6_goesMinute 9 = .ok (.aload_n 0, 1) := dk_42 (dk_at dksX6_goesMinute_0 9 rfl rfl)
theorem dX6_goesMinute_10 : decode cX6_goesMinute 10 = .ok (.getfield 7, 3) := dk_180 0 7 (dk_at dksX6_goesMinute_0 10 rfl rfl)
theorem dX6_goesMinute_13 : decode cX6_goesMinute 13 = .ok (.iconst 2, 1) := dk_5 (dk_at dksX6_goesMinute_0 13 rfl rfl)
theorem dX6_goesMinute_14 : decode cX6_goesMinute 14 = .ok (.iaload, 1) := dk_46 (dk_at dksX6_goesMinute_0 14 rfl rfl)
theorem dX6_goesMinute_15 : decode cX6_goesMinute 15 = .ok (.if_icmp .ge 41, 3) := dk_162 0 41 (dk_at dksX6_goesMinute_0 15 rfl rfl)
theorem dX6_goesMinute_18 : decode cX6_goesMinute 18 = .ok (.aload_n 0, 1) := dk_42 (dk_at dksX6_goesMinute_0 18 rfl rfl)
theorem dX6_goesMinute_19 : decode cX6_goesMinute 19 = .ok (.iload_n 2, 1) := dk_28 (dk_at dksX6_goesMinute_0 19 rfl rfl)
theorem dX6_goesMinute_20 : decode cX6_goesMinute 20 = .ok (.invokevirtual 143, 3) := dk_182 0 143 (dk_at dksX6_goesMinute_0 20 rfl rfl)
theorem dX6_goesMinute_23 : decode cX6_goesMinute 23 = .ok (.ifCond .ne 6, 3) := dk_154 0 6 (dk_at dksX6_goesMinute_1 0 rfl rfl)
theorem dX6_goesMinute_26 : decode cX6_goesMinute 26 = .ok (.goto 24, 3) := dk_167 0 24 (dk_at dksX6_goesMinute_1 3 rfl rfl)
theorem dX6_goesMinute_29 : decode cX6_goesMinute 29 = .ok (.aload_n 0, 1) := dk_42 (dk_at dksX6_goesMinute_1 6 rfl rfl)
theorem dX6_goesMinute_30 : decode cX6_goesMinute 30 = .ok (.iload_n 2, 1) := dk_28 (dk_at dksX6_goesMinute_1 7 rfl rfl)
theorem dX6_goesMinute_31 : decode cX6_goesMinute 31 = .ok (.invokevirtual 206, 3) := dk_182 0 206 (dk_at dksX6_goesMinute_1 8 rfl rfl)
theorem dX6_goesMinute_34 : decode cX6_goesMinute 34 = .ok (.iload_n 1, 1) := dk_27 (dk_at dksX6_goesMinute_1 11 rfl rfl)
theorem dX6_goesMinute_35 : decode cX6_goesMinute 35 = .ok (.aload_n 0, 1) := dk_42 (dk_at dksX6_goesMinute_1 12 rfl rfl)
theorem dX6_goesMinute_36 : decode cX6_goesMinute 36 = .ok (.iload_n 2, 1) := dk_28 (dk_at dksX6_goesMinute_1 13 rfl rfl)
theorem dX6_goesMinute_37 : decode cX6_goesMinute 37 = .ok (.invokevirtual 143, 3) := dk_182 0 143 (dk_at dksX6_goesMinute_1 14 rfl rfl)
theorem dX6_goesMinute_40 : decode cX6_goesMinute 40 = .ok (.ifCond .eq 7, 3) := dk_153 0 7 (dk_at dksX6_goesMinute_1 17 rfl rfl)
theorem dX6_goesMinute_43 : decode cX6_goesMinute 43 = .ok (.iconst 0, 1) := dk_3 (dk_at dksX6_goesMinute_1 20 rfl rfl)
theorem dX6_goesMinute_44 : decode cX6_goesMinute 44 = .ok (.goto 4, 3) := dk_167 0 4 (dk_at dksX6_goesMinute_1 21 rfl rfl)
theorem dX6_goesMinute_47 : decode cX6_goesMinute 47 = .ok (.iconst 1, 1) := dk_4 (dk_at dksX6_goesMinute_2 0 rfl rfl)
theorem dX6_goesMinute_48 : decode cX6_goesMinute 48 = .ok (.iadd, 1) := dk_96 (dk_at dksX6_goesMinute_2 1 rfl rfl)
theorem dX6_goesMinute_49 : decode cX6_goesMinute 49 = .ok (.istore_n 1, 1) := dk_60 (dk_at dksX6_goesMinute_2 2 rfl rfl)
theorem dX6_goesMinute_50 : decode cX6_goesMinute 50 = .ok (.iinc 2 1, 3) := dk_132 2 1 (dk_at dksX6_goesMinute_2 3 rfl rfl)
theorem dX6_goesMinute_53 : decode cX6_goesMinute 53 = .ok (.goto (-45), 3) := dk_167 255 211 (dk_at dksX6_goesMinute_2 6 rfl rfl)
theorem dX6_goesMinute_56 : decode cX6_goesMinute 56 = .ok (.iconst 0, 1) := dk_3 (dk_at dksX6_goesMinute_2 9 rfl rfl)
theorem dX6_goesMinute_57 : decode cX6_goesMinute 57 = .ok (.istore_n 2, 1) := dk_61 (dk_at dksX6_goesMinute_2 10 rfl rfl)
theorem dX6_goesMinute_58 : decode cX6_goesMinute 58 = .ok (.iload_n 2, 1) := dk_28 (dk_at dksX6_goesMinute_2 11 rfl rfl)
theorem dX6_goesMinute_59 : decode cX6_goesMinute 59 = .ok (.aload_n 0, 1) := dk_42 (dk_at dksX6_goesMinute_2 12 rfl rfl)
theorem dX6_goesMinute_60 : decode cX6_goesMinute 60 = .ok (.getfield 7, 3) := dk_180 0 7 (dk_at dksX6_goesMinute_2 13 rfl rfl)
theorem dX6_goesMinute_63 : decode cX6_goesMinute 63 = .ok (.iconst 3, 1) := dk_6 (dk_at dksX6_goesMinute_2 16 rfl rfl)
theorem dX6_goesMinute_64 : decode cX6_goesMinute 64 = .ok (.iaload, 1) := dk_46 (dk_at dksX6_goesMinute_2 17 rfl rfl)
theorem dX6_goesMinute_65 : decode cX6_goesMinute 65 = .ok (.if_icmp .ge 27, 3) := dk_162 0 27 (dk_at dksX6_goesMinute_2 18 rfl rfl)
theorem dX6_goesMinute_68 : decode cX6_goesMinute 68 = .ok (.aload_n 0, 1) := dk_42 (dk_at dksX6_goesMinute_2 21 rfl rfl)
theorem dX6_goesMinute_69 : decode cX6_goesMinute 69 = .ok (.iload_n 2, 1) := dk_28 (dk_at dksX6_goesMinute_2 22 rfl rfl)
theorem dX6_goesMinute_70 : decode cX6_goesMinute 70 = .ok (.iconst 1, 1) := dk_4 (dk_at dksX6_goesMinute_2 23 rfl rfl)
theorem dX6_goesMinute_71 : decode cX6_goesMinute 71 = .ok (.iconst 0, 1) := dk_3 (dk_at dksX6_goesMinute_3 0 rfl rfl)
theorem dX6_goesMinute_72 : decode cX6_goesMinute 72 = .ok (.aload_n 0, 1) := dk_42 (dk_at dksX6_goesMinute_3 1 rfl rfl)
theorem dX6_goesMinute_73 : decode cX6_goesMinute 73 = .ok (.iload_n 2, 1) := dk_28 (dk_at dksX6_goesMinute_3 2 rfl rfl)
theorem dX6_goesMinute_74 : decode cX6_goesMinute 74 = .ok (.iconst 1, 1) := dk_4 (dk_at dksX6_goesMinute_3 3 rfl rfl)
theorem dX6_goesMinute_75 : decode cX6_goesMinute 75 = .ok (.invokevirtual 155, 3) := dk_182 0 155 (dk_at dksX6_goesMinute_3 4 rfl rfl)
theorem dX6_goesMinute_78 : decode cX6_goesMinute 78 = .ok (.iconst 1, 1) := dk_4 (dk_at dksX6_goesMinute_3 7 rfl rfl)
theorem dX6_goesMinute_79 : decode cX6_goesMinute 79 = .ok (.isub, 1) := dk_100 (dk_at dksX6_goesMinute_3 8 rfl rfl)
theorem dX6_goesMinute_80 : decode cX6_goesMinute 80 = .ok (.invokestatic 197, 3) := dk_184 0 197 (dk_at dksX6_goesMinute_3 9 rfl rfl)
theorem dX6_goesMinute_83 : decode cX6_goesMinute 83 = .ok (.invokevirtual 149, 3) := dk_182 0 149 (dk_at dksX6_goesMinute_3 12 rfl rfl)
theorem dX6_goesMinute_86 : decode cX6_goesMinute 86 = .ok (.iinc 2 1, 3) := dk_132 2 1 (dk_at dksX6_goesMinute_3 15 rfl rfl)
theorem dX6_goesMinute_89 : decode cX6_goesMinute 89 = .ok (.goto (-31), 3) := dk_167 255 225 (dk_at dksX6_goesMinute_3 18 rfl rfl)
theorem dX6_goesMinute_92 : decode cX6_goesMinute 92 = .ok (.iconst 0, 1) := dk_3 (dk_at dksX6_goesMinute_3 21 rfl rfl)
theorem dX6_goesMinute_93 : decode cX6_goesMinute 93 = .ok (.istore_n 2, 1) := dk_61 (dk_at dksX6_goesMinute_3 22 rfl rfl)
theorem dX6_goesMinute_94 : decode cX6_goesMinute 94 = .ok (.iload_n 2, 1) := dk_28 (dk_at dksX6_goesMinute_3 23 rfl rfl)
theorem dX6_goesMinute_95 : decode cX6_goesMinute 95 = .ok (.aload_n 0, 1) := dk_42 (dk_at dksX6_goesMinute_4 0 rfl rfl)
theorem dX6_goesMinute_96 : decode cX6_goesMinute 96 = .ok (.getfield 7, 3) := dk_180 0 7 (dk_at dksX6_goesMinute_4 1 rfl rfl)
theorem dX6_goesMinute_99 : decode cX6_goesMinute 99 = .ok (.iconst 1, 1) := dk_4 (dk_at dksX6_goesMinute_4 4 rfl rfl)
theorem dX6_goesMinute_100 : decode cX6_goesMinute 100 = .ok (.iaload, 1) := dk_46 (dk_at dksX6_goesMinute_4 5 rfl rfl)
theorem dX6_goesMinute_101 : decode cX6_goesMinute 101 = .ok (.if_icmp .ge 41, 3) := dk_162 0 41 (dk_at dksX6_goesMinute_4 6 rfl rfl)
theorem dX6_goesMinute_104 : decode cX6_goesMinute 104 = .ok (.aload_n 0, 1) := dk_42 (dk_at dksX6_goesMinute_4 9 rfl rfl)
theorem dX6_goesMinute_105 : decode cX6_goesMinute 105 = .ok (.getfield 7, 3) := dk_180 0 7 (dk_at dksX6_goesMinute_4 10 rfl rfl)
theorem dX6_goesMinute_108 : decode cX6_goesMinute 108 = .ok (.iconst 0, 1) := dk_3 (dk_at dksX6_goesMinute_4 13 rfl rfl)
theorem dX6_goesMinute_109 : decode cX6_goesMinute 109 = .ok (.iaload, 1) := dk_46 (dk_at dksX6_goesMinute_4 14 rfl rfl)
theorem dX6_goesMinute_110 : decode cX6_goesMinute 110 = .ok (.bipush 10, 2) := dk_16 10 (dk_at dksX6_goesMinute_4 15 rfl rfl)
theorem dX6_goesMinute_112 : decode cX6_goesMinute 112 = .ok (.irem, 1) := dk_112 (dk_at dksX6_goesMinute_4 17 rfl rfl)
theorem dX6_goesMinute_113 : decode cX6_goesMinute 113 = .ok (.bipush 9, 2) := dk_16 9 (dk_at dksX6_goesMinute_4 18 rfl rfl)
theorem dX6_goesMinute_115 : decode cX6_goesMinute 115 = .ok (.if_icmp .ne 27, 3) := dk_160 0 27 (dk_at dksX6_goesMinute_4 20 rfl rfl)
theorem dX6_goesMinute_118 : decode cX6_goesMinute 118 = .ok (.aload_n 0, 1) := dk_42 (dk_at dksX6_goesMinute_4 23 rfl rfl)
theorem dX6_goesMinute_119 : decode cX6_goesMinute 119 = .ok (.iload_n 2, 1) := dk_28 (dk_at dksX6_goesMinute_5 0 rfl rfl)
theorem dX6_goesMinute_120 : decode cX6_goesMinute 120 = .ok (.iconst 1, 1) := dk_4 (dk_at dksX6_goesMinute_5 1 rfl rfl)
theorem dX6_goesMinute_121 : decode cX6_goesMinute 121 = .ok (.iconst 0, 1) := dk_3 (dk_at dksX6_goesMinute_5 2 rfl rfl)
theorem dX6_goesMinute_122 : decode cX6_goesMinute 122 = .ok (.aload_n 0, 1) := dk_42 (dk_at dksX6_goesMinute_5 3 rfl rfl)
theorem dX6_goesMinute_123 : decode cX6_goesMinute 123 = .ok (.iload_n 2, 1) := dk_28 (dk_at dksX6_goesMinute_5 4 rfl rfl)
theorem dX6_goesMinute_124 : decode cX6_goesMinute 124 = .ok (.iconst 1, 1) := dk_4 (dk_at dksX6_goesMinute_5 5 rfl rfl)
theorem dX6_goesMinute_125 : decode cX6_goesMinute 125 = .ok (.invokevirtual 104, 3) := dk_182 0 104 (dk_at dksX6_goesMinute_5 6 rfl rfl)
theorem dX6_goesMinute_128 : decode cX6_goesMinute 128 = .ok (.iconst 1, 1) := dk_4 (dk_at dksX6_goesMinute_5 9 rfl rfl)
theorem dX6_goesMinute_129 : decode cX6_goesMinute 129 = .ok (.isub, 1) := dk_100 (dk_at dksX6_goesMinute_5 10 rfl rfl)
theorem dX6_goesMinute_130 : decode cX6_goesMinute 130 = .ok (.invokestatic 197, 3) := dk_184 0 197 (dk_at dksX6_goesMinute_5 11 rfl rfl)
theorem dX6_goesMinute_133 : decode cX6_goesMinute 133 = .ok (.invokevirtual 120, 3) := dk_182 0 120 (dk_at dksX6_goesMinute_5 14 rfl rfl)
theorem dX6_goesMinute_136 : decode cX6_goesMinute 136 = .ok (.iinc 2 1, 3) := dk_132 2 1 (dk_at dksX6_goesMinute_5 17 rfl rfl)
theorem dX6_goesMinute_139 : decode cX6_goesMinute 139 = .ok (.goto (-45), 3) := dk_167 255 211 (dk_at dksX6_goesMinute_5 20 rfl rfl)
theorem dX6_goesMinute_142 : decode cX6_goesMinute 142 = .ok (.aload_n 0, 1) := dk_42 (dk_at dksX6_goesMinute_5 23 rfl rfl)
theorem dX6_goesMinute_143 : decode cX6_goesMinute 143 = .ok (.getfield 7, 3) := dk_180 0 7 (dk_at dksX6_goesMinute_6 0 rfl rfl)
theorem dX6_goesMinute_146 : decode cX6_goesMinute 146 = .ok (.iconst 0, 1) := dk_3 (dk_at dksX6_goesMinute_6 3 rfl rfl)
theorem dX6_goesMinute_147 : decode cX6_goesMinute 147 = .ok (.dup2, 1) := dk_92 (dk_at dksX6_goesMinute_6 4 rfl rfl)
theorem dX6_goesMinute_148 : decode cX6_goesMinute 148 = .ok (.iaload, 1) := dk_46 (dk_at dksX6_goesMinute_6 5 rfl rfl)
theorem dX6_goesMinute_149 : decode cX6_goesMinute 149 = .ok (.iconst 1, 1) := dk_4 (dk_at dksX6_goesMinute_6 6 rfl rfl)
theorem dX6_goesMinute_150 : decode cX6_goesMinute 150 = .ok (.iadd, 1) := dk_96 (dk_at dksX6_goesMinute_6 7 rfl rfl)
theorem dX6_goesMinute_151 : decode cX6_goesMinute 151 = .ok (.iastore, 1) := dk_79 (dk_at dksX6_goesMinute_6 8 rfl rfl)
theorem dX6_goesMinute_152 : decode cX6_goesMinute 152 = .ok (.iload_n 1, 1) := dk_27 (dk_at dksX6_goesMinute_6 9 rfl rfl)
theorem dX6_goesMinute_153 : decode cX6_goesMinute 153 = .ok (.ireturn, 1) := dk_172 (dk_at dksX6_goesMinute_6 10 rfl rfl)
abbrev kX6_goesMinute : KX := (cX6_goesMinute, "TissueBalloonsModel", "goesMinute", 3, some .int, [], 5)
abbrev cX6_plansOfNow : ByteArray := prog_14_method_58_code
def yX6_plansOfNow : MethodName := ⟨RX6, "plansOfNow", "()V"⟩
def dkwX6_plansOfNow_3 : List UInt8 := [182, 0, 167, 182, 0, 164, 60, 42, 3, 182, 0, 187, 167, 255, 176, 177]
abbrev dktX6_plansOfNow_3 : List UInt8 := dkwX6_plansOfNow_3 ++ []
def dkwX6_plansOfNow_2 : List UInt8 := [180, 0, 7, 8, 92, 46, 4, 96, 79, 167, 0, 20, 42, 42, 3, 3, 182, 0, 167, 42, 3, 4]
abbrev dktX6_plansOfNow_2 : List UInt8 := dkwX6_plansOfNow_2 ++ dktX6_plansOfNow_3
def dkwX6_plansOfNow_1 : List UInt8 := [3, 60, 42, 42, 3, 3, 182, 0, 167, 42, 3, 4, 182, 0, 167, 182, 0, 161, 153, 0, 16, 42]
abbrev dktX6_plansOfNow_1 : List UInt8 := dkwX6_plansOfNow_1 ++ dktX6_plansOfNow_2
def dkwX6_plansOfNow_0 : List UInt8 := [42, 180, 0, 7, 7, 46, 158, 0, 77, 42, 3, 5, 182, 0, 167, 42, 180, 0, 7, 3, 46, 160, 0, 62]
abbrev dktX6_plansOfNow_0 : List UInt8 := dkwX6_plansOfNow_0 ++ dktX6_plansOfNow_1
theorem dksX6_plansOfNow_0 : cX6_plansOfNow.data.toList.drop 0 = dktX6_plansOfNow_0 := by decide +kernel
theorem dksX6_plansOfNow_1 : cX6_plansOfNow.data.toList.drop 24 = dktX6_plansOfNow_1 := dk_seg dksX6_plansOfNow_0 24 rfl rfl
theorem dksX6_plansOfNow_2 : cX6_plansOfNow.data.toList.drop 46 = dktX6_plansOfNow_2 := dk_seg dksX6_plansOfNow_1 22 rfl rfl
theorem dksX6_plansOfNow_3 : cX6_plansOfNow.data.toList.drop 68 = dktX6_plansOfNow_3 := dk_seg dksX6_plansOfNow_2 22 rfl rfl
theorem dX6_plansOfNow_0 : decode cX6_plansOfNow 0 = .ok (.aload_n 0, 1) := dk_42 (dk_at dksX6_plansOfNow_0 0 rfl rfl)
theorem dX6_plansOfNow_1 : decode cX6_plansOfNow 1 = .ok (.getfield 7, 3) := dk_180 0 7 (dk_at dksX6_plansOfNow_0 1 rfl rfl)
theorem dX6_plansOfNow_4 : decode cX6_plansOfNow 4 = .ok (.iconst 4, 1) := dk_7 (dk_at dksX6_plansOfNow_0 4 rfl rfl)
theorem dX6_plansOfNow_5 : decode cX6_plansOfNow 5 = .ok (.iaload, 1) := dk_46 (dk_at dksX6_plansOfNow_0 5 rfl rfl)
theorem dX6_plansOfNow_6 : decode cX6_plansOfNow 6 = .ok (.ifCond .le 77, 3) := dk_158 0 77 (dk_at dksX6_plansOfNow_0 6 rfl rfl)
theorem dX6_plansOfNow_9 : decode cX6_plansOfNow 9 = .ok (.aload_n 0, 1) := dk_42 (dk_at dksX6_plansOfNow_0 9 rfl rfl)
theorem dX6_plansOfNow_10 : decode cX6_plansOfNow 10 = .ok (.iconst 0, 1) := dk_3 (dk_at dksX6_plansOfNow_0 10 rfl rfl)
theorem dX6_plansOfNow_11 : decode cX6_plansOfNow 11 = .ok (.iconst 2, 1) := dk_5 (dk_at dksX6_plansOfNow_0 11 rfl rfl)
theorem dX6_plansOfNow_12 : decode cX6_plansOfNow 12 = .ok (.invokevirtual 167, 3) := dk_182 0 167 (dk_at dksX6_plansOfNow_0 12 rfl rfl)
theorem dX6_plansOfNow_15 : decode cX6_plansOfNow 15 = .ok (.aload_n 0, 1) := dk_42 (dk_at dksX6_plansOfNow_0 15 rfl rfl)
theorem dX6_plansOfNow_16 : decode cX6_plansOfNow 16 = .ok (.getfield 7, 3) := dk_180 0 7 (dk_at dksX6_plansOfNow_0 16 rfl rfl)
theorem dX6_plansOfNow_19 : decode cX6_plansOfNow 19 = .ok (.iconst 0, 1) := dk_3 (dk_at dksX6_plansOfNow_0 19 rfl rfl)
theorem dX6_plansOfNow_20 : decode cX6_plansOfNow 20 = .ok (.iaload, 1) := dk_46 (dk_at dksX6_plansOfNow_0 20 rfl rfl)
theorem dX6_plansOfNow_21 : decode cX6_plansOfNow 21 = .ok (.if_icmp .ne 62, 3) := dk_160 0 62 (dk_at dksX6_plansOfNow_0 21 rfl rfl)
theorem dX6_plansOfNow_24 : decode cX6_plansOfNow 24 = .ok (.iconst 0, 1) := dk_3 (dk_at dksX6_plansOfNow_1 0 rfl rfl)
theorem dX6_plansOfNow_25 : decode cX6_plansOfNow 25 = .ok (.istore_n 1, 1) := dk_60 (dk_at dksX6_plansOfNow_1 1 rfl rfl)
theorem dX6_plansOfNow_26 : decode cX6_plansOfNow 26 = .ok (.aload_n 0, 1) := dk_42 (dk_at dksX6_plansOfNow_1 2 rfl rfl)
theorem dX6_plansOfNow_27 : decode cX6_plansOfNow 27 = .ok (.aload_n 0, 1) := dk_42 (dk_at dksX6_plansOfNow_1 3 rfl rfl)
theorem dX6_plansOfNow_28 : decode cX6_plansOfNow 28 = .ok (.iconst 0, 1) := dk_3 (dk_at dksX6_plansOfNow_1 4 rfl rfl)
theorem dX6_plansOfNow_29 : decode cX6_plansOfNow 29 = .ok (.iconst 0, 1) := dk_3 (dk_at dksX6_plansOfNow_1 5 rfl rfl)
theorem dX6_plansOfNow_30 : decode cX6_plansOfNow 30 = .ok (.invokevirtual 167, 3) := dk_182 0 167 (dk_at dksX6_plansOfNow_1 6 rfl rfl)
theorem dX6_plansOfNow_33 : decode cX6_plansOfNow 33 = .ok (.aload_n 0, 1) := dk_42 (dk_at dksX6_plansOfNow_1 9 rfl rfl)
theorem dX6_plansOfNow_34 : decode cX6_plansOfNow 34 = .ok (.iconst 0, 1) := dk_3 (dk_at dksX6_plansOfNow_1 10 rfl rfl)
theorem dX6_plansOfNow_35 : decode cX6_plansOfNow 35 = .ok (.iconst 1, 1) := dk_4 (dk_at dksX6_plansOfNow_1 11 rfl rfl)
theorem dX6_plansOfNow_36 : decode cX6_plansOfNow 36 = .ok (.invokevirtual 167, 3) := dk_182 0 167 (dk_at dksX6_plansOfNow_1 12 rfl rfl)
theorem dX6_plansOfNow_39 : decode cX6_plansOfNow 39 = .ok (.invokevirtual 161, 3) := dk_182 0 161 (dk_at dksX6_plansOfNow_1 15 rfl rfl)
theorem dX6_plansOfNow_42 : decode cX6_plansOfNow 42 = .ok (.ifCond .eq 16, 3) := dk_153 0 16 (dk_at dksX6_plansOfNow_1 18 rfl rfl)
theorem dX6_plansOfNow_45 : decode cX6_plansOfNow 45 = .ok (.aload_n 0, 1) := dk_42 (dk_at dksX6_plansOfNow_1 21 rfl rfl)
theorem dX6_plansOfNow_46 : decode cX6_plansOfNow 46 = .ok (.getfield 7, 3) := dk_180 0 7 (dk_at dksX6_plansOfNow_2 0 rfl rfl)
theorem dX6_plansOfNow_49 : decode cX6_plansOfNow 49 = .ok (.iconst 5, 1) := dk_8 (dk_at dksX6_plansOfNow_2 3 rfl rfl)
theorem dX6_plansOfNow_50 : decode cX6_plansOfNow 50 = .ok (.dup2, 1) := dk_92 (dk_at dksX6_plansOfNow_2 4 rfl rfl)
theorem dX6_plansOfNow_51 : decode cX6_plansOfNow 51 = .ok (.iaload, 1) := dk_46 (dk_at dksX6_plansOfNow_2 5 rfl rfl)
theorem dX6_plansOfNow_52 : decode cX6_plansOfNow 52 = .ok (.iconst 1, 1) := dk_4 (dk_at dksX6_plansOfNow_2 6 rfl rfl)
theorem dX6_plansOfNow_53 : decode cX6_plansOfNow 53 = .ok (.iadd, 1) := dk_96 (dk_at dksX6_plansOfNow_2 7 rfl rfl)
theorem dX6_plansOfNow_54 : decode cX6_plansOfNow 54 = .ok (.iastore, 1) := dk_79 (dk_at dksX6_plansOfNow_2 8 rfl rfl)
theorem dX6_plansOfNow_55 : decode cX6_plansOfNow 55 = .ok (.goto 20, 3) := dk_167 0 20 (dk_at dksX6_plansOfNow_2 9 rfl rfl)
theorem dX6_plansOfNow_58 : decode cX6_plansOfNow 58 = .ok (.aload_n 0, 1) := dk_42 (dk_at dksX6_plansOfNow_2 12 rfl rfl)
theorem dX6_plansOfNow_59 : decode cX6_plansOfNow 59 = .ok (.aload_n 0, 1) := dk_42 (dk_at dksX6_plansOfNow_2 13 rfl rfl)
theorem dX6_plansOfNow_60 : decode cX6_plansOfNow 60 = .ok (.iconst 0, 1) := dk_3 (dk_at dksX6_plansOfNow_2 14 rfl rfl)
theorem dX6_plansOfNow_61 : decode cX6_plansOfNow 61 = .ok (.iconst 0, 1) := dk_3 (dk_at dksX6_plansOfNow_2 15 rfl rfl)
theorem dX6_plansOfNow_62 : decode cX6_plansOfNow 62 = .ok (.invokevirtual 167, 3) := dk_182 0 167 (dk_at dksX6_plansOfNow_2 16 rfl rfl)
theorem dX6_plansOfNow_65 : decode cX6_plansOfNow 65 = .ok (.aload_n 0, 1) := dk_42 (dk_at dksX6_plansOfNow_2 19 rfl rfl)
theorem dX6_plansOfNow_66 : decode cX6_plansOfNow 66 = .ok (.iconst 0, 1) := dk_3 (dk_at dksX6_plansOfNow_2 20 rfl rfl)
theorem dX6_plansOfNow_67 : decode cX6_plansOfNow 67 = .ok (.iconst 1, 1) := dk_4 (dk_at dksX6_plansOfNow_2 21 rfl rfl)
theorem dX6_plansOfNow_68 : decode cX6_plansOfNow 68 = .ok (.invokevirtual 167, 3) := dk_182 0 167 (dk_at dksX6_plansOfNow_3 0 rfl rfl)
theorem dX6_plansOfNow_71 : decode cX6_plansOfNow 71 = .ok (.invokevirtual 164, 3) := dk_182 0 164 (dk_at dksX6_plansOfNow_3 3 rfl rfl)
theorem dX6_plansOfNow_74 : decode cX6_plansOfNow 74 = .ok (.istore_n 1, 1) := dk_60 (dk_at dksX6_plansOfNow_3 6 rfl rfl)
theorem dX6_plansOfNow_75 : decode cX6_plansOfNow 75 = .ok (.aload_n 0, 1) := dk_42 (dk_at dksX6_plansOfNow_3 7 rfl rfl)
theorem dX6_plansOfNow_76 : decode cX6_plansOfNow 76 = .ok (.iconst 0, 1) := dk_3 (dk_at dksX6_plansOfNow_3 8 rfl rfl)
theorem dX6_plansOfNow_77 : decode cX6_plansOfNow 77 = .ok (.invokevirtual 187, 3) := dk_182 0 187 (dk_at dksX6_plansOfNow_3 9 rfl rfl)
theorem dX6_plansOfNow_80 : decode cX6_plansOfNow 80 = .ok (.goto (-80), 3) := dk_167 255 176 (dk_at dksX6_plansOfNow_3 12 rfl rfl)
theorem dX6_plansOfNow_83 : decode cX6_plansOfNow 83 = .ok (.return_, 1) := dk_177 (dk_at dksX6_plansOfNow_3 15 rfl rfl)
abbrev kX6_plansOfNow : KX := (cX6_plansOfNow, "TissueBalloonsModel", "plansOfNow", 2, none, [], 3)
abbrev cX6_fliesOn : ByteArray := prog_14_method_62_code
def yX6_fliesOn : MethodName := ⟨RX6, "fliesOn", "(I)V"⟩
def dkwX6_fliesOn_5 : List UInt8 := [27, 182, 0, 200, 177]
abbrev dktX6_fliesOn_5 : List UInt8 := dkwX6_fliesOn_5 ++ []
def dkwX6_fliesOn_4 : List UInt8 := [154, 0, 9, 42, 27, 182, 0, 194, 177, 42, 27, 7, 42, 27, 7, 182, 0, 140, 4, 100, 182, 0, 146, 42]
abbrev dktX6_fliesOn_4 : List UInt8 := dkwX6_fliesOn_4 ++ dktX6_fliesOn_5
def dkwX6_fliesOn_3 : List UInt8 := [42, 27, 6, 3, 42, 27, 6, 182, 0, 140, 4, 100, 184, 0, 197, 182, 0, 146, 42, 27, 7, 182, 0, 140]
abbrev dktX6_fliesOn_3 : List UInt8 := dkwX6_fliesOn_3 ++ dktX6_fliesOn_4
def dkwX6_fliesOn_2 : List UInt8 := [182, 0, 146, 42, 27, 7, 6, 42, 27, 7, 182, 0, 140, 4, 96, 184, 0, 131, 182, 0, 146, 167, 0, 50]
abbrev dktX6_fliesOn_2 : List UInt8 := dkwX6_fliesOn_2 ++ dktX6_fliesOn_3
def dkwX6_fliesOn_1 : List UInt8 := [4, 96, 79, 42, 27, 5, 182, 0, 140, 158, 0, 38, 42, 27, 5, 42, 27, 5, 182, 0, 140, 4, 100]
abbrev dktX6_fliesOn_1 : List UInt8 := dkwX6_fliesOn_1 ++ dktX6_fliesOn_2
def dkwX6_fliesOn_0 : List UInt8 := [42, 27, 16, 6, 42, 27, 16, 6, 182, 0, 140, 4, 96, 182, 0, 146, 42, 180, 0, 7, 16, 7, 92, 46]
abbrev dktX6_fliesOn_0 : List UInt8 := dkwX6_fliesOn_0 ++ dktX6_fliesOn_1
theorem dksX6_fliesOn_0 : cX6_fliesOn.data.toList.drop 0 = dktX6_fliesOn_0 := by decide +kernel
theorem dksX6_fliesOn_1 : cX6_fliesOn.data.toList.drop 24 = dktX6_fliesOn_1 := dk_seg dksX6_fliesOn_0 24 rfl rfl
theorem dksX6_fliesOn_2 : cX6_fliesOn.data.toList.drop 47 = dktX6_fliesOn_2 := dk_seg dksX6_fliesOn_1 23 rfl rfl
theorem dksX6_fliesOn_3 : cX6_fliesOn.data.toList.drop 71 = dktX6_fliesOn_3 := dk_seg dksX6_fliesOn_2 24 rfl rfl
theorem dksX6_fliesOn_4 : cX6_fliesOn.data.toList.drop 95 = dktX6_fliesOn_4 := dk_seg dksX6_fliesOn_3 24 rfl rfl
theorem dksX6_fliesOn_5 : cX6_fliesOn.data.toList.drop 119 = dktX6_fliesOn_5 := dk_seg dksX6_fliesOn_4 24 rfl rfl
theorem dX6_fliesOn_0 : decode cX6_fliesOn 0 = .ok (.aload_n 0, 1) := dk_42 (dk_at dksX6_fliesOn_0 0 rfl rfl)
theorem dX6_fliesOn_1 : decode cX6_fliesOn 1 = .ok (.iload_n 1, 1) := dk_27 (dk_at dksX6_fliesOn_0 1 rfl rfl)
theorem dX6_fliesOn_2 : decode cX6_fliesOn 2 = .ok (.bipush 6, 2) := dk_16 6 (dk_at dksX6_fliesOn_0 2 rfl rfl)
theorem dX6_fliesOn_4 : decode cX6_fliesOn 4 = .ok (.aload_n 0, 1) := dk_42 (dk_at dksX6_fliesOn_0 4 rfl rfl)
theorem dX6_fliesOn_5 : decode cX6_fliesOn 5 = .ok (.iload_n 1, 1) := dk_27 (dk_at dksX6_fliesOn_0 5 rfl rfl)
theorem dX6_fliesOn_6 : decode cX6_fliesOn 6 = .ok (.bipush 6, 2) := dk_16 6 (dk_at dksX6_fliesOn_0 6 rfl rfl)
theorem dX6_fliesOn_8 : decode cX6_fliesOn 8 = .ok (.invokevirtual 140, 3) := dk_182 0 140 (dk_at dksX6_fliesOn_0 8 rfl rfl)
theorem dX6_fliesOn_11 : decode cX6_fliesOn 11 = .ok (.iconst 1, 1) := dk_4 (dk_at dksX6_fliesOn_0 11 rfl rfl)
theorem dX6_fliesOn_12 : decode cX6_fliesOn 12 = .ok (.iadd, 1) := dk_96 (dk_at dksX6_fliesOn_0 12 rfl rfl)
theorem dX6_fliesOn_13 : decode cX6_fliesOn 13 = .ok (.invokevirtual 146, 3) := dk_182 0 146 (dk_at dksX6_fliesOn_0 13 rfl rfl)
theorem dX6_fliesOn_16 : decode cX6_fliesOn 16 = .ok (.aload_n 0, 1) := dk_42 (dk_at dksX6_fliesOn_0 16 rfl rfl)
theorem dX6_fliesOn_17 : decode cX6_fliesOn 17 = .ok (.getfield 7, 3) := dk_180 0 7 (dk_at dksX6_fliesOn_0 17 rfl rfl)
theorem dX6_fliesOn_20 : decode cX6_fliesOn 20 = .ok (.bipush 7, 2) := dk_16 7 (dk_at dksX6_fliesOn_0 20 rfl rfl)
theorem dX6_fliesOn_22 : decode cX6_fliesOn 22 = .ok (.dup2, 1) := dk_92 (dk_at dksX6_fliesOn_0 22 rfl rfl)
theorem dX6_fliesOn_23 : decode cX6_fliesOn 23 = .ok (.iaload, 1) := dk_46 (dk_at dksX6_fliesOn_0 23 rfl rfl)
theorem dX6_fliesOn_24 : decode cX6_fliesOn 24 = .ok (.iconst 1, 1) := dk_4 (dk_at dksX6_fliesOn_1 0 rfl rfl)
theorem dX6_fliesOn_25 : decode cX6_fliesOn 25 = .ok (.iadd, 1) := dk_96 (dk_at dksX6_fliesOn_1 1 rfl rfl)
theorem dX6_fliesOn_26 : decode cX6_fliesOn 26 = .ok (.iastore, 1) := dk_79 (dk_at dksX6_fliesOn_1 2 rfl rfl)
theorem dX6_fliesOn_27 : decode cX6_fliesOn 27 = .ok (.aload_n 0, 1) := dk_42 (dk_at dksX6_fliesOn_1 3 rfl rfl)
theorem dX6_fliesOn_28 : decode cX6_fliesOn 28 = .ok (.iload_n 1, 1) := dk_27 (dk_at dksX6_fliesOn_1 4 rfl rfl)
theorem dX6_fliesOn_29 : decode cX6_fliesOn 29 = .ok (.iconst 2, 1) := dk_5 (dk_at dksX6_fliesOn_1 5 rfl rfl)
theorem dX6_fliesOn_30 : decode cX6_fliesOn 30 = .ok (.invokevirtual 140, 3) := dk_182 0 140 (dk_at dksX6_fliesOn_1 6 rfl rfl)
theorem dX6_fliesOn_33 : decode cX6_fliesOn 33 = .ok (.ifCond .le 38, 3) := dk_158 0 38 (dk_at dksX6_fliesOn_1 9 rfl rfl)
theorem dX6_fliesOn_36 : decode cX6_fliesOn 36 = .ok (.aload_n 0, 1) := dk_42 (dk_at dksX6_fliesOn_1 12 rfl rfl)
theorem dX6_fliesOn_37 : decode cX6_fliesOn 37 = .ok (.iload_n 1, 1) := dk_27 (dk_at dksX6_fliesOn_1 13 rfl rfl)
theorem dX6_fliesOn_38 : decode cX6_fliesOn 38 = .ok (.iconst 2, 1) := dk_5 (dk_at dksX6_fliesOn_1 14 rfl rfl)
theorem dX6_fliesOn_39 : decode cX6_fliesOn 39 = .ok (.aload_n 0, 1) := dk_42 (dk_at dksX6_fliesOn_1 15 rfl rfl)
theorem dX6_fliesOn_40 : decode cX6_fliesOn 40 = .ok (.iload_n 1, 1) := dk_27 (dk_at dksX6_fliesOn_1 16 rfl rfl)
theorem dX6_fliesOn_41 : decode cX6_fliesOn 41 = .ok (.iconst 2, 1) := dk_5 (dk_at dksX6_fliesOn_1 17 rfl rfl)
theorem dX6_fliesOn_42 : decode cX6_fliesOn 42 = .ok (.invokevirtual 140, 3) := dk_182 0 140 (dk_at dksX6_fliesOn_1 18 rfl rfl)
theorem dX6_fliesOn_45 : decode cX6_fliesOn 45 = .ok (.iconst 1, 1) := dk_4 (dk_at dksX6_fliesOn_1 21 rfl rfl)
theorem dX6_fliesOn_46 : decode cX6_fliesOn 46 = .ok (.isub, 1) := dk_100 (dk_at dksX6_fliesOn_1 22 rfl rfl)
theorem dX6_fliesOn_47 : decode cX6_fliesOn 47 = .ok (.invokevirtual 146, 3) := dk_182 0 146 (dk_at dksX6_fliesOn_2 0 rfl rfl)
theorem dX6_fliesOn_50 : decode cX6_fliesOn 50 = .ok (.aload_n 0, 1) := dk_42 (dk_at dksX6_fliesOn_2 3 rfl rfl)
theorem dX6_fliesOn_51 : decode cX6_fliesOn 51 = .ok (.iload_n 1, 1) := dk_27 (dk_at dksX6_fliesOn_2 4 rfl rfl)
theorem dX6_fliesOn_52 : decode cX6_fliesOn 52 = .ok (.iconst 4, 1) := dk_7 (dk_at dksX6_fliesOn_2 5 rfl rfl)
theorem dX6_fliesOn_53 : decode cX6_fliesOn 53 = .ok (.iconst 3, 1) := dk_6 (dk_at dksX6_fliesOn_2 6 rfl rfl)
theorem dX6_fliesOn_54 : decode cX6_fliesOn 54 = .ok (.aload_n 0, 1) := dk_42 (dk_at dksX6_fliesOn_2 7 rfl rfl)
theorem dX6_fliesOn_55 : decode cX6_fliesOn 55 = .ok (.iload_n 1, 1) := dk_27 (dk_at dksX6_fliesOn_2 8 rfl rfl)
theorem dX6_fliesOn_56 : decode cX6_fliesOn 56 = .ok (.iconst 4, 1) := dk_7 (dk_at dksX6_fliesOn_2 9 rfl rfl)
theorem dX6_fliesOn_57 : decode cX6_fliesOn 57 = .ok (.invokevirtual 140, 3) := dk_182 0 140 (dk_at dksX6_fliesOn_2 10 rfl rfl)
theorem dX6_fliesOn_60 : decode cX6_fliesOn 60 = .ok (.iconst 1, 1) := dk_4 (dk_at dksX6_fliesOn_2 13 rfl rfl)
theorem dX6_fliesOn_61 : decode cX6_fliesOn 61 = .ok (.iadd, 1) := dk_96 (dk_at dksX6_fliesOn_2 14 rfl rfl)
theorem dX6_fliesOn_62 : decode cX6_fliesOn 62 = .ok (.invokestatic 131, 3) := dk_184 0 131 (dk_at dksX6_fliesOn_2 15 rfl rfl)
theorem dX6_fliesOn_65 : decode cX6_fliesOn 65 = .ok (.invokevirtual 146, 3) := dk_182 0 146 (dk_at dksX6_fliesOn_2 18 rfl rfl)
theorem dX6_fliesOn_68 : decode cX6_fliesOn 68 = .ok (.goto 50, 3) := dk_167 0 50 (dk_at dksX6_fliesOn_2 21 rfl rfl)
theorem dX6_fliesOn_71 : decode cX6_fliesOn 71 = .ok (.aload_n 0, 1) := dk_42 (dk_at dksX6_fliesOn_3 0 rfl rfl)
theorem dX6_fliesOn_72 : decode cX6_fliesOn 72 = .ok (.iload_n 1, 1) := dk_27 (dk_at dksX6_fliesOn_3 1 rfl rfl)
theorem dX6_fliesOn_73 : decode cX6_fliesOn 73 = .ok (.iconst 3, 1) := dk_6 (dk_at dksX6_fliesOn_3 2 rfl rfl)
theorem dX6_fliesOn_74 : decode cX6_fliesOn 74 = .ok (.iconst 0, 1) := dk_3 (dk_at dksX6_fliesOn_3 3 rfl rfl)
theorem dX6_fliesOn_75 : decode cX6_fliesOn 75 = .ok (.aload_n 0, 1) := dk_42 (dk_at dksX6_fliesOn_3 4 rfl rfl)
theorem dX6_fliesOn_76 : decode cX6_fliesOn 76 = .ok (.iload_n 1, 1) := dk_27 (dk_at dksX6_fliesOn_3 5 rfl rfl)
theorem dX6_fliesOn_77 : decode cX6_fliesOn 77 = .ok (.iconst 3, 1) := dk_6 (dk_at dksX6_fliesOn_3 6 rfl rfl)
theorem dX6_fliesOn_78 : decode cX6_fliesOn 78 = .ok (.invokevirtual 140, 3) := dk_182 0 140 (dk_at dksX6_fliesOn_3 7 rfl rfl)
theorem dX6_fliesOn_81 : decode cX6_fliesOn 81 = .ok (.iconst 1, 1) := dk_4 (dk_at dksX6_fliesOn_3 10 rfl rfl)
theorem dX6_fliesOn_82 : decode cX6_fliesOn 82 = .ok (.isub, 1) := dk_100 (dk_at dksX6_fliesOn_3 11 rfl rfl)
theorem dX6_fliesOn_83 : decode cX6_fliesOn 83 = .ok (.invokestatic 197, 3) := dk_184 0 197 (dk_at dksX6_fliesOn_3 12 rfl rfl)
theorem dX6_fliesOn_86 : decode cX6_fliesOn 86 = .ok (.invokevirtual 146, 3) := dk_182 0 146 (dk_at dksX6_fliesOn_3 15 rfl rfl)
theorem dX6_fliesOn_89 : decode cX6_fliesOn 89 = .ok (.aload_n 0, 1) := dk_42 (dk_at dksX6_fliesOn_3 18 rfl rfl)
theorem dX6_fliesOn_90 : decode cX6_fliesOn 90 = .ok (.iload_n 1, 1) := dk_27 (dk_at dksX6_fliesOn_3 19 rfl rfl)
theorem dX6_fliesOn_91 : decode cX6_fliesOn 91 = .ok (.iconst 4, 1) := dk_7 (dk_at dksX6_fliesOn_3 20 rfl rfl)
theorem dX6_fliesOn_92 : decode cX6_fliesOn 92 = .ok (.invokevirtual 140, 3) := dk_182 0 140 (dk_at dksX6_fliesOn_3 21 rfl rfl)
theorem dX6_fliesOn_95 : decode cX6_fliesOn 95 = .ok (.ifCond .ne 9, 3) := dk_154 0 9 (dk_at dksX6_fliesOn_4 0 rfl rfl)
theorem dX6_fliesOn_98 : decode cX6_fliesOn 98 = .ok (.aload_n 0, 1) := dk_42 (dk_at dksX6_fliesOn_4 3 rfl rfl)
theorem dX6_fliesOn_99 : decode cX6_fliesOn 99 = .ok (.iload_n 1, 1) := dk_27 (dk_at dksX6_fliesOn_4 4 rfl rfl)
theorem dX6_fliesOn_100 : decode cX6_fliesOn 100 = .ok (.invokevirtual 194, 3) := dk_182 0 194 (dk_at dksX6_fliesOn_4 5 rfl rfl)
theorem dX6_fliesOn_103 : decode cX6_fliesOn 103 = .ok (.return_, 1) := dk_177 (dk_at dksX6_fliesOn_4 8 rfl rfl)
theorem dX6_fliesOn_104 : decode cX6_fliesOn 104 = .ok (.aload_n 0, 1) := dk_42 (dk_at dksX6_fliesOn_4 9 rfl rfl)
theorem dX6_fliesOn_105 : decode cX6_fliesOn 105 = .ok (.iload_n 1, 1) := dk_27 (dk_at dksX6_fliesOn_4 10 rfl rfl)
theorem dX6_fliesOn_106 : decode cX6_fliesOn 106 = .ok (.iconst 4, 1) := dk_7 (dk_at dksX6_fliesOn_4 11 rfl rfl)
theorem dX6_fliesOn_107 : decode cX6_fliesOn 107 = .ok (.aload_n 0, 1) := dk_42 (dk_at dksX6_fliesOn_4 12 rfl rfl)
theorem dX6_fliesOn_108 : decode cX6_fliesOn 108 = .ok (.iload_n 1, 1) := dk_27 (dk_at dksX6_fliesOn_4 13 rfl rfl)
theorem dX6_fliesOn_109 : decode cX6_fliesOn 109 = .ok (.iconst 4, 1) := dk_7 (dk_at dksX6_fliesOn_4 14 rfl rfl)
theorem dX6_fliesOn_110 : decode cX6_fliesOn 110 = .ok (.invokevirtual 140, 3) := dk_182 0 140 (dk_at dksX6_fliesOn_4 15 rfl rfl)
theorem dX6_fliesOn_113 : decode cX6_fliesOn 113 = .ok (.iconst 1, 1) := dk_4 (dk_at dksX6_fliesOn_4 18 rfl rfl)
theorem dX6_fliesOn_114 : decode cX6_fliesOn 114 = .ok (.isub, 1) := dk_100 (dk_at dksX6_fliesOn_4 19 rfl rfl)
theorem dX6_fliesOn_115 : decode cX6_fliesOn 115 = .ok (.invokevirtual 146, 3) := dk_182 0 146 (dk_at dksX6_fliesOn_4 20 rfl rfl)
theorem dX6_fliesOn_118 : decode cX6_fliesOn 118 = .ok (.aload_n 0, 1) := dk_42 (dk_at dksX6_fliesOn_4 23 rfl rfl)
theorem dX6_fliesOn_119 : decode cX6_fliesOn 119 = .ok (.iload_n 1, 1) := dk_27 (dk_at dksX6_fliesOn_5 0 rfl rfl)
theorem dX6_fliesOn_120 : decode cX6_fliesOn 120 = .ok (.invokevirtual 200, 3) := dk_182 0 200 (dk_at dksX6_fliesOn_5 1 rfl rfl)
theorem dX6_fliesOn_123 : decode cX6_fliesOn 123 = .ok (.return_, 1) := dk_177 (dk_at dksX6_fliesOn_5 4 rfl rfl)
abbrev kX6_fliesOn : KX := (cX6_fliesOn, "TissueBalloonsModel", "fliesOn", 2, none, [], 4)
abbrev cX6_most : ByteArray := prog_14_method_5_code
def yX6_most : MethodName := ⟨RX6, "most", "(II)I"⟩
def dkwX6_most_0 : List UInt8 := [26, 27, 164, 0, 7, 26, 167, 0, 4, 27, 172]
abbrev dktX6_most_0 : List UInt8 := dkwX6_most_0 ++ []
theorem dksX6_most_0 : cX6_most.data.toList.drop 0 = dktX6_most_0 := by decide +kernel
theorem dX6_most_0 : decode cX6_most 0 = .ok (.iload_n 0, 1) := dk_26 (dk_at dksX6_most_0 0 rfl rfl)
theorem dX6_most_1 : decode cX6_most 1 = .ok (.iload_n 1, 1) := dk_27 (dk_at dksX6_most_0 1 rfl rfl)
theorem dX6_most_2 : decode cX6_most 2 = .ok (.if_icmp .le 7, 3) := dk_164 0 7 (dk_at dksX6_most_0 2 rfl rfl)
theorem dX6_most_5 : decode cX6_most 5 = .ok (.iload_n 0, 1) := dk_26 (dk_at dksX6_most_0 5 rfl rfl)
theorem dX6_most_6 : decode cX6_most 6 = .ok (.goto 4, 3) := dk_167 0 4 (dk_at dksX6_most_0 6 rfl rfl)
theorem dX6_most_9 : decode cX6_most 9 = .ok (.iload_n 1, 1) := dk_27 (dk_at dksX6_most_0 9 rfl rfl)
theorem dX6_most_10 : decode cX6_most 10 = .ok (.ireturn, 1) := dk_172 (dk_at dksX6_most_0 10 rfl rfl)
abbrev kX6_most : KX := (cX6_most, "TissueBalloonsModel", "most", 2, some .int, [], 0)
abbrev cX6_lands : ByteArray := prog_14_method_60_code
def yX6_lands : MethodName := ⟨RX6, "lands", "(I)V"⟩
def dkwX6_lands_4 : List UInt8 := [153, 0, 7, 6, 167, 0, 4, 5, 182, 0, 191, 177]
abbrev dktX6_lands_4 : List UInt8 := dkwX6_lands_4 ++ []
def dkwX6_lands_3 : List UInt8 := [182, 0, 104, 4, 96, 182, 0, 120, 29, 153, 0, 10, 42, 28, 6, 4, 182, 0, 120, 42, 27, 29]
abbrev dktX6_lands_3 : List UInt8 := dkwX6_lands_3 ++ dktX6_lands_4
def dkwX6_lands_2 : List UInt8 := [182, 0, 104, 154, 0, 7, 4, 167, 0, 4, 3, 62, 28, 155, 0, 17, 42, 28, 7, 42, 28, 7]
abbrev dktX6_lands_2 : List UInt8 := dkwX6_lands_2 ++ dktX6_lands_3
def dkwX6_lands_1 : List UInt8 := [42, 27, 6, 182, 0, 140, 158, 0, 26, 42, 28, 4, 182, 0, 104, 6, 162, 0, 16, 42, 28, 5]
abbrev dktX6_lands_1 : List UInt8 := dkwX6_lands_1 ++ dktX6_lands_2
def dkwX6_lands_0 : List UInt8 := [42, 42, 27, 8, 182, 0, 140, 182, 0, 110, 61, 28, 155, 0, 44, 42, 28, 6, 182, 0, 104, 154, 0, 35]
abbrev dktX6_lands_0 : List UInt8 := dkwX6_lands_0 ++ dktX6_lands_1
theorem dksX6_lands_0 : cX6_lands.data.toList.drop 0 = dktX6_lands_0 := by decide +kernel
theorem dksX6_lands_1 : cX6_lands.data.toList.drop 24 = dktX6_lands_1 := dk_seg dksX6_lands_0 24 rfl rfl
theorem dksX6_lands_2 : cX6_lands.data.toList.drop 46 = dktX6_lands_2 := dk_seg dksX6_lands_1 22 rfl rfl
theorem dksX6_lands_3 : cX6_lands.data.toList.drop 68 = dktX6_lands_3 := dk_seg dksX6_lands_2 22 rfl rfl
theorem dksX6_lands_4 : cX6_lands.data.toList.drop 90 = dktX6_lands_4 := dk_seg dksX6_lands_3 22 rfl rfl
theorem dX6_lands_0 : decode cX6_lands 0 = .ok (.aload_n 0, 1) := dk_42 (dk_at dksX6_lands_0 0 rfl rfl)
theorem dX6_lands_1 : decode cX6_lands 1 = .ok (.aload_n 0, 1) := dk_42 (dk_at dksX6_lands_0 1 rfl rfl)
theorem dX6_lands_2 : decode cX6_lands 2 = .ok (.iload_n 1, 1) := dk_27 (dk_at dksX6_lands_0 2 rfl rfl)
theorem dX6_lands_3 : decode cX6_lands 3 = .ok (.iconst 5, 1) := dk_8 (dk_at dksX6_lands_0 3 rfl rfl)
theorem dX6_lands_4 : decode cX6_lands 4 = .ok (.invokevirtual 140, 3) := dk_182 0 140 (dk_at dksX6_lands_0 4 rfl rfl)
theorem dX6_lands_7 : decode cX6_lands 7 = .ok (.invokevirtual 110, 3) := dk_182 0 110 (dk_at dksX6_lands_0 7 rfl rfl)
theorem dX6_lands_10 : decode cX6_lands 10 = .ok (.istore_n 2, 1) := dk_61 (dk_at dksX6_lands_0 10 rfl rfl)
theorem dX6_lands_11 : decode cX6_lands 11 = .ok (.iload_n 2, 1) := dk_28 (dk_at dksX6_lands_0 11 rfl rfl)
theorem dX6_lands_12 : decode cX6_lands 12 = .ok (.ifCond .lt 44, 3) := dk_155 0 44 (dk_at dksX6_lands_0 12 rfl rfl)
theorem dX6_lands_15 : decode cX6_lands 15 = .ok (.aload_n 0, 1) := dk_42 (dk_at dksX6_lands_0 15 rfl rfl)
theorem dX6_lands_16 : decode cX6_lands 16 = .ok (.iload_n 2, 1) := dk_28 (dk_at dksX6_lands_0 16 rfl rfl)
theorem dX6_lands_17 : decode cX6_lands 17 = .ok (.iconst 3, 1) := dk_6 (dk_at dksX6_lands_0 17 rfl rfl)
theorem dX6_lands_18 : decode cX6_lands 18 = .ok (.invokevirtual 104, 3) := dk_182 0 104 (dk_at dksX6_lands_0 18 rfl rfl)
theorem dX6_lands_21 : decode cX6_lands 21 = .ok (.ifCond .ne 35, 3) := dk_154 0 35 (dk_at dksX6_lands_0 21 rfl rfl)
theorem dX6_lands_24 : decode cX6_lands 24 = .ok (.aload_n 0, 1) := dk_42 (dk_at dksX6_lands_1 0 rfl rfl)
theorem dX6_lands_25 : decode cX6_lands 25 = .ok (.iload_n 1, 1) := dk_27 (dk_at dksX6_lands_1 1 rfl rfl)
theorem dX6_lands_26 : decode cX6_lands 26 = .ok (.iconst 3, 1) := dk_6 (dk_at dksX6_lands_1 2 rfl rfl)
theorem dX6_lands_27 : decode cX6_lands 27 = .ok (.invokevirtual 140, 3) := dk_182 0 140 (dk_at dksX6_lands_1 3 rfl rfl)
theorem dX6_lands_30 : decode cX6_lands 30 = .ok (.ifCond .le 26, 3) := dk_158 0 26 (dk_at dksX6_lands_1 6 rfl rfl)
theorem dX6_lands_33 : decode cX6_lands 33 = .ok (.aload_n 0, 1) := dk_42 (dk_at dksX6_lands_1 9 rfl rfl)
theorem dX6_lands_34 : decode cX6_lands 34 = .ok (.iload_n 2, 1) := dk_28 (dk_at dksX6_lands_1 10 rfl rfl)
theorem dX6_lands_35 : decode cX6_lands 35 = .ok (.iconst 1, 1) := dk_4 (dk_at dksX6_lands_1 11 rfl rfl)
theorem dX6_lands_36 : decode cX6_lands 36 = .ok (.invokevirtual 104, 3) := dk_182 0 104 (dk_at dksX6_lands_1 12 rfl rfl)
theorem dX6_lands_39 : decode cX6_lands 39 = .ok (.iconst 3, 1) := dk_6 (dk_at dksX6_lands_1 15 rfl rfl)
theorem dX6_lands_40 : decode cX6_lands 40 = .ok (.if_icmp .ge 16, 3) := dk_162 0 16 (dk_at dksX6_lands_1 16 rfl rfl)
theorem dX6_lands_43 : decode cX6_lands 43 = .ok (.aload_n 0, 1) := dk_42 (dk_at dksX6_lands_1 19 rfl rfl)
theorem dX6_lands_44 : decode cX6_lands 44 = .ok (.iload_n 2, 1) := dk_28 (dk_at dksX6_lands_1 20 rfl rfl)
theorem dX6_lands_45 : decode cX6_lands 45 = .ok (.iconst 2, 1) := dk_5 (dk_at dksX6_lands_1 21 rfl rfl)
theorem dX6_lands_46 : decode cX6_lands 46 = .ok (.invokevirtual 104, 3) := dk_182 0 104 (dk_at dksX6_lands_2 0 rfl rfl)
theorem dX6_lands_49 : decode cX6_lands 49 = .ok (.ifCond .ne 7, 3) := dk_154 0 7 (dk_at dksX6_lands_2 3 rfl rfl)
theorem dX6_lands_52 : decode cX6_lands 52 = .ok (.iconst 1, 1) := dk_4 (dk_at dksX6_lands_2 6 rfl rfl)
theorem dX6_lands_53 : decode cX6_lands 53 = .ok (.goto 4, 3) := dk_167 0 4 (dk_at dksX6_lands_2 7 rfl rfl)
theorem dX6_lands_56 : decode cX6_lands 56 = .ok (.iconst 0, 1) := dk_3 (dk_at dksX6_lands_2 10 rfl rfl)
theorem dX6_lands_57 : decode cX6_lands 57 = .ok (.istore_n 3, 1) := dk_62 (dk_at dksX6_lands_2 11 rfl rfl)
theorem dX6_lands_58 : decode cX6_lands 58 = .ok (.iload_n 2, 1) := dk_28 (dk_at dksX6_lands_2 12 rfl rfl)
theorem dX6_lands_59 : decode cX6_lands 59 = .ok (.ifCond .lt 17, 3) := dk_155 0 17 (dk_at dksX6_lands_2 13 rfl rfl)
theorem dX6_lands_62 : decode cX6_lands 62 = .ok (.aload_n 0, 1) := dk_42 (dk_at dksX6_lands_2 16 rfl rfl)
theorem dX6_lands_63 : decode cX6_lands 63 = .ok (.iload_n 2, 1) := dk_28 (dk_at dksX6_lands_2 17 rfl rfl)
theorem dX6_lands_64 : decode cX6_lands 64 = .ok (.iconst 4, 1) := dk_7 (dk_at dksX6_lands_2 18 rfl rfl)
theorem dX6_lands_65 : decode cX6_lands 65 = .ok (.aload_n 0, 1) := dk_42 (dk_at dksX6_lands_2 19 rfl rfl)
theorem dX6_lands_66 : decode cX6_lands 66 = .ok (.iload_n 2, 1) := dk_28 (dk_at dksX6_lands_2 20 rfl rfl)
theorem dX6_lands_67 : decode cX6_lands 67 = .ok (.iconst 4, 1) := dk_7 (dk_at dksX6_lands_2 21 rfl rfl)
theorem dX6_lands_68 : decode cX6_lands 68 = .ok (.invokevirtual 104, 3) := dk_182 0 104 (dk_at dksX6_lands_3 0 rfl rfl)
theorem dX6_lands_71 : decode cX6_lands 71 = .ok (.iconst 1, 1) := dk_4 (dk_at dksX6_lands_3 3 rfl rfl)
theorem dX6_lands_72 : decode cX6_lands 72 = .ok (.iadd, 1) := dk_96 (dk_at dksX6_lands_3 4 rfl rfl)
theorem dX6_lands_73 : decode cX6_lands 73 = .ok (.invokevirtual 120, 3) := dk_182 0 120 (dk_at dksX6_lands_3 5 rfl rfl)
theorem dX6_lands_76 : decode cX6_lands 76 = .ok (.iload_n 3, 1) := dk_29 (dk_at dksX6_lands_3 8 rfl rfl)
theorem dX6_lands_77 : decode cX6_lands 77 = .ok (.ifCond .eq 10, 3) := dk_153 0 10 (dk_at dksX6_lands_3 9 rfl rfl)
theorem dX6_lands_80 : decode cX6_lands 80 = .ok (.aload_n 0, 1) := dk_42 (dk_at dksX6_lands_3 12 rfl rfl)
theorem dX6_lands_81 : decode cX6_lands 81 = .ok (.iload_n 2, 1) := dk_28 (dk_at dksX6_lands_3 13 rfl rfl)
theorem dX6_lands_82 : decode cX6_lands 82 = .ok (.iconst 3, 1) := dk_6 (dk_at dksX6_lands_3 14 rfl rfl)
theorem dX6_lands_83 : decode cX6_lands 83 = .ok (.iconst 1, 1) := dk_4 (dk_at dksX6_lands_3 15 rfl rfl)
theorem dX6_lands_84 : decode cX6_lands 84 = .ok (.invokevirtual 120, 3) := dk_182 0 120 (dk_at dksX6_lands_3 16 rfl rfl)
theorem dX6_lands_87 : decode cX6_lands 87 = .ok (.aload_n 0, 1) := dk_42 (dk_at dksX6_lands_3 19 rfl rfl)
theorem dX6_lands_88 : decode cX6_lands 88 = .ok (.iload_n 1, 1) := dk_27 (dk_at dksX6_lands_3 20 rfl rfl)
theorem dX6_lands_89 : decode cX6_lands 89 = .ok (.iload_n 3, 1) := dk_29 (dk_at dksX6_lands_3 21 rfl rfl)
theorem dX6_lands_90 : decode cX6_lands 90 = .ok (.ifCond .eq 7, 3) := dk_153 0 7 (dk_at dksX6_lands_4 0 rfl rfl)
theorem dX6_lands_93 : decode cX6_lands 93 = .ok (.iconst 3, 1) := dk_6 (dk_at dksX6_lands_4 3 rfl rfl)
theorem dX6_lands_94 : decode cX6_lands 94 = .ok (.goto 4, 3) := dk_167 0 4 (dk_at dksX6_lands_4 4 rfl rfl)
theorem dX6_lands_97 : decode cX6_lands 97 = .ok (.iconst 2, 1) := dk_5 (dk_at dksX6_lands_4 7 rfl rfl)
theorem dX6_lands_98 : decode cX6_lands 98 = .ok (.invokevirtual 191, 3) := dk_182 0 191 (dk_at dksX6_lands_4 8 rfl rfl)
theorem dX6_lands_101 : decode cX6_lands 101 = .ok (.return_, 1) := dk_177 (dk_at dksX6_lands_4 11 rfl rfl)
abbrev kX6_lands : KX := (cX6_lands, "TissueBalloonsModel", "lands", 4, none, [], 2)
abbrev cX6_ends : ByteArray := prog_14_method_59_code
def yX6_ends : MethodName := ⟨RX6, "ends", "(II)V"⟩
def dkwX6_ends_1 : List UInt8 := [182, 0, 146, 177]
abbrev dktX6_ends_1 : List UInt8 := dkwX6_ends_1 ++ []
def dkwX6_ends_0 : List UInt8 := [42, 27, 3, 28, 182, 0, 146, 42, 27, 7, 2, 182, 0, 146, 28, 7, 160, 0, 10, 42, 27, 8, 2]
abbrev dktX6_ends_0 : List UInt8 := dkwX6_ends_0 ++ dktX6_ends_1
theorem dksX6_ends_0 : cX6_ends.data.toList.drop 0 = dktX6_ends_0 := by decide +kernel
theorem dksX6_ends_1 : cX6_ends.data.toList.drop 23 = dktX6_ends_1 := dk_seg dksX6_ends_0 23 rfl rfl
theorem dX6_ends_0 : decode cX6_ends 0 = .ok (.aload_n 0, 1) := dk_42 (dk_at dksX6_ends_0 0 rfl rfl)
theorem dX6_ends_1 : decode cX6_ends 1 = .ok (.iload_n 1, 1) := dk_27 (dk_at dksX6_ends_0 1 rfl rfl)
theorem dX6_ends_2 : decode cX6_ends 2 = .ok (.iconst 0, 1) := dk_3 (dk_at dksX6_ends_0 2 rfl rfl)
theorem dX6_ends_3 : decode cX6_ends 3 = .ok (.iload_n 2, 1) := dk_28 (dk_at dksX6_ends_0 3 rfl rfl)
theorem dX6_ends_4 : decode cX6_ends 4 = .ok (.invokevirtual 146, 3) := dk_182 0 146 (dk_at dksX6_ends_0 4 rfl rfl)
theorem dX6_ends_7 : decode cX6_ends 7 = .ok (.aload_n 0, 1) := dk_42 (dk_at dksX6_ends_0 7 rfl rfl)
theorem dX6_ends_8 : decode cX6_ends 8 = .ok (.iload_n 1, 1) := dk_27 (dk_at dksX6_ends_0 8 rfl rfl)
theorem dX6_ends_9 : decode cX6_ends 9 = .ok (.iconst 4, 1) := dk_7 (dk_at dksX6_ends_0 9 rfl rfl)
theorem dX6_ends_10 : decode cX6_ends 10 = .ok (.iconst (-1), 1) := dk_2 (dk_at dksX6_ends_0 10 rfl rfl)
theorem dX6_ends_11 : decode cX6_ends 11 = .ok (.invokevirtual 146, 3) := dk_182 0 146 (dk_at dksX6_ends_0 11 rfl rfl)
theorem dX6_ends_14 : decode cX6_ends 14 = .ok (.iload_n 2, 1) := dk_28 (dk_at dksX6_ends_0 14 rfl rfl)
theorem dX6_ends_15 : decode cX6_ends 15 = .ok (.iconst 4, 1) := dk_7 (dk_at dksX6_ends_0 15 rfl rfl)
theorem dX6_ends_16 : decode cX6_ends 16 = .ok (.if_icmp .ne 10, 3) := dk_160 0 10 (dk_at dksX6_ends_0 16 rfl rfl)
theorem dX6_ends_19 : decode cX6_ends 19 = .ok (.aload_n 0, 1) := dk_42 (dk_at dksX6_ends_0 19 rfl rfl)
theorem dX6_ends_20 : decode cX6_ends 20 = .ok (.iload_n 1, 1) := dk_27 (dk_at dksX6_ends_0 20 rfl rfl)
theorem dX6_ends_21 : decode cX6_ends 21 = .ok (.iconst 5, 1) := dk_8 (dk_at dksX6_ends_0 21 rfl rfl)
theorem dX6_ends_22 : decode cX6_ends 22 = .ok (.iconst (-1), 1) := dk_2 (dk_at dksX6_ends_0 22 rfl rfl)
theorem dX6_ends_23 : decode cX6_ends 23 = .ok (.invokevirtual 146, 3) := dk_182 0 146 (dk_at dksX6_ends_1 0 rfl rfl)
theorem dX6_ends_26 : decode cX6_ends 26 = .ok (.return_, 1) := dk_177 (dk_at dksX6_ends_1 3 rfl rfl)
abbrev kX6_ends : KX := (cX6_ends, "TissueBalloonsModel", "ends", 3, none, [], 1)
abbrev cX6_drifts : ByteArray := prog_14_method_61_code
def yX6_drifts : MethodName := ⟨RX6, "drifts", "(I)V"⟩
def dkwX6_drifts_4 : List UInt8 := [6, 182, 0, 191, 167, 0, 8, 42, 27, 182, 0, 194, 177]
abbrev dktX6_drifts_4 : List UInt8 := dkwX6_drifts_4 ++ []
def dkwX6_drifts_3 : List UInt8 := [182, 0, 146, 42, 27, 4, 182, 0, 140, 158, 0, 4, 177, 42, 27, 5, 182, 0, 140, 158, 0, 12, 42, 27]
abbrev dktX6_drifts_3 : List UInt8 := dkwX6_drifts_3 ++ dktX6_drifts_4
def dkwX6_drifts_2 : List UInt8 := [28, 6, 159, 0, 10, 28, 16, 253, 159, 0, 4, 177, 42, 27, 4, 42, 27, 4, 182, 0, 140, 4, 100]
abbrev dktX6_drifts_2 : List UInt8 := dkwX6_drifts_2 ++ dktX6_drifts_3
def dkwX6_drifts_1 : List UInt8 := [28, 96, 182, 0, 146, 42, 27, 8, 182, 0, 140, 184, 0, 107, 154, 0, 10, 42, 27, 7, 182, 0, 191, 177]
abbrev dktX6_drifts_1 : List UInt8 := dkwX6_drifts_1 ++ dktX6_drifts_2
def dkwX6_drifts_0 : List UInt8 := [42, 180, 0, 7, 16, 8, 42, 27, 7, 182, 0, 140, 96, 46, 61, 42, 27, 8, 42, 27, 8, 182, 0, 140]
abbrev dktX6_drifts_0 : List UInt8 := dkwX6_drifts_0 ++ dktX6_drifts_1
theorem dksX6_drifts_0 : cX6_drifts.data.toList.drop 0 = dktX6_drifts_0 := by decide +kernel
theorem dksX6_drifts_1 : cX6_drifts.data.toList.drop 24 = dktX6_drifts_1 := dk_seg dksX6_drifts_0 24 rfl rfl
theorem dksX6_drifts_2 : cX6_drifts.data.toList.drop 48 = dktX6_drifts_2 := dk_seg dksX6_drifts_1 24 rfl rfl
theorem dksX6_drifts_3 : cX6_drifts.data.toList.drop 71 = dktX6_drifts_3 := dk_seg dksX6_drifts_2 23 rfl rfl
theorem dksX6_drifts_4 : cX6_drifts.data.toList.drop 95 = dktX6_drifts_4 := dk_seg dksX6_drifts_3 24 rfl rfl
theorem dX6_drifts_0 : decode cX6_drifts 0 = .ok (.aload_n 0, 1) := dk_42 (dk_at dksX6_drifts_0 0 rfl rfl)
theorem dX6_drifts_1 : decode cX6_drifts 1 = .ok (.getfield 7, 3) := dk_180 0 7 (dk_at dksX6_drifts_0 1 rfl rfl)
theorem dX6_drifts_4 : decode cX6_drifts 4 = .ok (.bipush 8, 2) := dk_16 8 (dk_at dksX6_drifts_0 4 rfl rfl)
theorem dX6_drifts_6 : decode cX6_drifts 6 = .ok (.aload_n 0, 1) := dk_42 (dk_at dksX6_drifts_0 6 rfl rfl)
theorem dX6_drifts_7 : decode cX6_drifts 7 = .ok (.iload_n 1, 1) := dk_27 (dk_at dksX6_drifts_0 7 rfl rfl)
theorem dX6_drifts_8 : decode cX6_drifts 8 = .ok (.iconst 4, 1) := dk_7 (dk_at dksX6_drifts_0 8 rfl rfl)
theorem dX6_drifts_9 : decode cX6_drifts 9 = .ok (.invokevirtual 140, 3) := dk_182 0 140 (dk_at dksX6_drifts_0 9 rfl rfl)
theorem dX6_drifts_12 : decode cX6_drifts 12 = .ok (.iadd, 1) := dk_96 (dk_at dksX6_drifts_0 12 rfl rfl)
theorem dX6_drifts_13 : decode cX6_drifts 13 = .ok (.iaload, 1) := dk_46 (dk_at dksX6_drifts_0 13 rfl rfl)
theorem dX6_drifts_14 : decode cX6_drifts 14 = .ok (.istore_n 2, 1) := dk_61 (dk_at dksX6_drifts_0 14 rfl rfl)
theorem dX6_drifts_15 : decode cX6_drifts 15 = .ok (.aload_n 0, 1) := dk_42 (dk_at dksX6_drifts_0 15 rfl rfl)
theorem dX6_drifts_16 : decode cX6_drifts 16 = .ok (.iload_n 1, 1) := dk_27 (dk_at dksX6_drifts_0 16 rfl rfl)
theorem dX6_drifts_17 : decode cX6_drifts 17 = .ok (.iconst 5, 1) := dk_8 (dk_at dksX6_drifts_0 17 rfl rfl)
theorem dX6_drifts_18 : decode cX6_drifts 18 = .ok (.aload_n 0, 1) := dk_42 (dk_at dksX6_drifts_0 18 rfl rfl)
theorem dX6_drifts_19 : decode cX6_drifts 19 = .ok (.iload_n 1, 1) := dk_27 (dk_at dksX6_drifts_0 19 rfl rfl)
theorem dX6_drifts_20 : decode cX6_drifts 20 = .ok (.iconst 5, 1) := dk_8 (dk_at dksX6_drifts_0 20 rfl rfl)
theorem dX6_drifts_21 : decode cX6_drifts 21 = .ok (.invokevirtual 140, 3) := dk_182 0 140 (dk_at dksX6_drifts_0 21 rfl rfl)
theorem dX6_drifts_24 : decode cX6_drifts 24 = .ok (.iload_n 2, 1) := dk_28 (dk_at dksX6_drifts_1 0 rfl rfl)
theorem dX6_drifts_25 : decode cX6_drifts 25 = .ok (.iadd, 1) := dk_96 (dk_at dksX6_drifts_1 1 rfl rfl)
theorem dX6_drifts_26 : decode cX6_drifts 26 = .ok (.invokevirtual 146, 3) := dk_182 0 146 (dk_at dksX6_drifts_1 2 rfl rfl)
theorem dX6_drifts_29 : decode cX6_drifts 29 = .ok (.aload_n 0, 1) := dk_42 (dk_at dksX6_drifts_1 5 rfl rfl)
theorem dX6_drifts_30 : decode cX6_drifts 30 = .ok (.iload_n 1, 1) := dk_27 (dk_at dksX6_drifts_1 6 rfl rfl)
theorem dX6_drifts_31 : decode cX6_drifts 31 = .ok (.iconst 5, 1) := dk_8 (dk_at dksX6_drifts_1 7 rfl rfl)
theorem dX6_drifts_32 : decode cX6_drifts 32 = .ok (.invokevirtual 140, 3) := dk_182 0 140 (dk_at dksX6_drifts_1 8 rfl rfl)
theorem dX6_drifts_35 : decode cX6_drifts 35 = .ok (.invokestatic 107, 3) := dk_184 0 107 (dk_at dksX6_drifts_1 11 rfl rfl)
theorem dX6_drifts_38 : decode cX6_drifts 38 = .ok (.ifCond .ne 10, 3) := dk_154 0 10 (dk_at dksX6_drifts_1 14 rfl rfl)
theorem dX6_drifts_41 : decode cX6_drifts 41 = .ok (.aload_n 0, 1) := dk_42 (dk_at dksX6_drifts_1 17 rfl rfl)
theorem dX6_drifts_42 : decode cX6_drifts 42 = .ok (.iload_n 1, 1) := dk_27 (dk_at dksX6_drifts_1 18 rfl rfl)
theorem dX6_drifts_43 : decode cX6_drifts 43 = .ok (.iconst 4, 1) := dk_7 (dk_at dksX6_drifts_1 19 rfl rfl)
theorem dX6_drifts_44 : decode cX6_drifts 44 = .ok (.invokevirtual 191, 3) := dk_182 0 191 (dk_at dksX6_drifts_1 20 rfl rfl)
theorem dX6_drifts_47 : decode cX6_drifts 47 = .ok (.return_, 1) := dk_177 (dk_at dksX6_drifts_1 23 rfl rfl)
theorem dX6_drifts_48 : decode cX6_drifts 48 = .ok (.iload_n 2, 1) := dk_28 (dk_at dksX6_drifts_2 0 rfl rfl)
theorem dX6_drifts_49 : decode cX6_drifts 49 = .ok (.iconst 3, 1) := dk_6 (dk_at dksX6_drifts_2 1 rfl rfl)
theorem dX6_drifts_50 : decode cX6_drifts 50 = .ok (.if_icmp .eq 10, 3) := dk_159 0 10 (dk_at dksX6_drifts_2 2 rfl rfl)
theorem dX6_drifts_53 : decode cX6_drifts 53 = .ok (.iload_n 2, 1) := dk_28 (dk_at dksX6_drifts_2 5 rfl rfl)
theorem dX6_drifts_54 : decode cX6_drifts 54 = .ok (.bipush (-3), 2) := dk_16 253 (dk_at dksX6_drifts_2 6 rfl rfl)
theorem dX6_drifts_56 : decode cX6_drifts 56 = .ok (.if_icmp .eq 4, 3) := dk_159 0 4 (dk_at dksX6_drifts_2 8 rfl rfl)
theorem dX6_drifts_59 : decode cX6_drifts 59 = .ok (.return_, 1) := dk_177 (dk_at dksX6_drifts_2 11 rfl rfl)
theorem dX6_drifts_60 : decode cX6_drifts 60 = .ok (.aload_n 0, 1) := dk_42 (dk_at dksX6_drifts_2 12 rfl rfl)
theorem dX6_drifts_61 : decode cX6_drifts 61 = .ok (.iload_n 1, 1) := dk_27 (dk_at dksX6_drifts_2 13 rfl rfl)
theorem dX6_drifts_62 : decode cX6_drifts 62 = .ok (.iconst 1, 1) := dk_4 (dk_at dksX6_drifts_2 14 rfl rfl)
theorem dX6_drifts_63 : decode cX6_drifts 63 = .ok (.aload_n 0, 1) := dk_42 (dk_at dksX6_drifts_2 15 rfl rfl)
theorem dX6_drifts_64 : decode cX6_drifts 64 = .ok (.iload_n 1, 1) := dk_27 (dk_at dksX6_drifts_2 16 rfl rfl)
theorem dX6_drifts_65 : decode cX6_drifts 65 = .ok (.iconst 1, 1) := dk_4 (dk_at dksX6_drifts_2 17 rfl rfl)
theorem dX6_drifts_66 : decode cX6_drifts 66 = .ok (.invokevirtual 140, 3) := dk_182 0 140 (dk_at dksX6_drifts_2 18 rfl rfl)
theorem dX6_drifts_69 : decode cX6_drifts 69 = .ok (.iconst 1, 1) := dk_4 (dk_at dksX6_drifts_2 21 rfl rfl)
theorem dX6_drifts_70 : decode cX6_drifts 70 = .ok (.isub, 1) := dk_100 (dk_at dksX6_drifts_2 22 rfl rfl)
theorem dX6_drifts_71 : decode cX6_drifts 71 = .ok (.invokevirtual 146, 3) := dk_182 0 146 (dk_at dksX6_drifts_3 0 rfl rfl)
theorem dX6_drifts_74 : decode cX6_drifts 74 = .ok (.aload_n 0, 1) := dk_42 (dk_at dksX6_drifts_3 3 rfl rfl)
theorem dX6_drifts_75 : decode cX6_drifts 75 = .ok (.iload_n 1, 1) := dk_27 (dk_at dksX6_drifts_3 4 rfl rfl)
theorem dX6_drifts_76 : decode cX6_drifts 76 = .ok (.iconst 1, 1) := dk_4 (dk_at dksX6_drifts_3 5 rfl rfl)
theorem dX6_drifts_77 : decode cX6_drifts 77 = .ok (.invokevirtual 140, 3) := dk_182 0 140 (dk_at dksX6_drifts_3 6 rfl rfl)
theorem dX6_drifts_80 : decode cX6_drifts 80 = .ok (.ifCond .le 4, 3) := dk_158 0 4 (dk_at dksX6_drifts_3 9 rfl rfl)
theorem dX6_drifts_83 : decode cX6_drifts 83 = .ok (.return_, 1) := dk_177 (dk_at dksX6_drifts_3 12 rfl rfl)
theorem dX6_drifts_84 : decode cX6_drifts 84 = .ok (.aload_n 0, 1) := dk_42 (dk_at dksX6_drifts_3 13 rfl rfl)
theorem dX6_drifts_85 : decode cX6_drifts 85 = .ok (.iload_n 1, 1) := dk_27 (dk_at dksX6_drifts_3 14 rfl rfl)
theorem dX6_drifts_86 : decode cX6_drifts 86 = .ok (.iconst 2, 1) := dk_5 (dk_at dksX6_drifts_3 15 rfl rfl)
theorem dX6_drifts_87 : decode cX6_drifts 87 = .ok (.invokevirtual 140, 3) := dk_182 0 140 (dk_at dksX6_drifts_3 16 rfl rfl)
theorem dX6_drifts_90 : decode cX6_drifts 90 = .ok (.ifCond .le 12, 3) := dk_158 0 12 (dk_at dksX6_drifts_3 19 rfl rfl)
theorem dX6_drifts_93 : decode cX6_drifts 93 = .ok (.aload_n 0, 1) := dk_42 (dk_at dksX6_drifts_3 22 rfl rfl)
theorem dX6_drifts_94 : decode cX6_drifts 94 = .ok (.iload_n 1, 1) := dk_27 (dk_at dksX6_drifts_3 23 rfl rfl)
theorem dX6_drifts_95 : decode cX6_drifts 95 = .ok (.iconst 3, 1) := dk_6 (dk_at dksX6_drifts_4 0 rfl rfl)
theorem dX6_drifts_96 : decode cX6_drifts 96 = .ok (.invokevirtual 191, 3) := dk_182 0 191 (dk_at dksX6_drifts_4 1 rfl rfl)
theorem dX6_drifts_99 : decode cX6_drifts 99 = .ok (.goto 8, 3) := dk_167 0 8 (dk_at dksX6_drifts_4 4 rfl rfl)
theorem dX6_drifts_102 : decode cX6_drifts 102 = .ok (.aload_n 0, 1) := dk_42 (dk_at dksX6_drifts_4 7 rfl rfl)
theorem dX6_drifts_103 : decode cX6_drifts 103 = .ok (.iload_n 1, 1) := dk_27 (dk_at dksX6_drifts_4 8 rfl rfl)
theorem dX6_drifts_104 : decode cX6_drifts 104 = .ok (.invokevirtual 194, 3) := dk_182 0 194 (dk_at dksX6_drifts_4 9 rfl rfl)
theorem dX6_drifts_107 : decode cX6_drifts 107 = .ok (.return_, 1) := dk_177 (dk_at dksX6_drifts_4 12 rfl rfl)
abbrev kX6_drifts : KX := (cX6_drifts, "TissueBalloonsModel", "drifts", 3, none, [], 3)
abbrev cX6_layerIn : ByteArray := prog_14_method_67_code
def yX6_layerIn : MethodName := ⟨RX6, "layerIn", "(II)I"⟩
def dkwX6_layerIn_3 : List UInt8 := [96, 184, 0, 131, 28, 29, 100, 100, 184, 0, 197, 172]
abbrev dktX6_layerIn_3 : List UInt8 := dkwX6_layerIn_3 ++ []
def dkwX6_layerIn_2 : List UInt8 := [182, 0, 75, 172, 28, 42, 27, 5, 182, 0, 140, 184, 0, 131, 62, 2, 6, 42, 27, 7, 182, 0, 140, 29]
abbrev dktX6_layerIn_2 : List UInt8 := dkwX6_layerIn_2 ++ dktX6_layerIn_3
def dkwX6_layerIn_1 : List UInt8 := [184, 0, 83, 154, 0, 9, 42, 5, 182, 0, 75, 172, 42, 27, 182, 0, 143, 154, 0, 9, 42, 6]
abbrev dktX6_layerIn_1 : List UInt8 := dkwX6_layerIn_1 ++ dktX6_layerIn_2
def dkwX6_layerIn_0 : List UInt8 := [42, 3, 181, 0, 25, 42, 27, 182, 0, 158, 154, 0, 9, 42, 4, 182, 0, 75, 172, 28, 3, 16, 40]
abbrev dktX6_layerIn_0 : List UInt8 := dkwX6_layerIn_0 ++ dktX6_layerIn_1
theorem dksX6_layerIn_0 : cX6_layerIn.data.toList.drop 0 = dktX6_layerIn_0 := by decide +kernel
theorem dksX6_layerIn_1 : cX6_layerIn.data.toList.drop 23 = dktX6_layerIn_1 := dk_seg dksX6_layerIn_0 23 rfl rfl
theorem dksX6_layerIn_2 : cX6_layerIn.data.toList.drop 45 = dktX6_layerIn_2 := dk_seg dksX6_layerIn_1 22 rfl rfl
theorem dksX6_layerIn_3 : cX6_layerIn.data.toList.drop 69 = dktX6_layerIn_3 := dk_seg dksX6_layerIn_2 24 rfl rfl
theorem dX6_layerIn_0 : decode cX6_layerIn 0 = .ok (.aload_n 0, 1) := dk_42 (dk_at dksX6_layerIn_0 0 rfl rfl)
theorem dX6_layerIn_1 : decode cX6_layerIn 1 = .ok (.iconst 0, 1) := dk_3 (dk_at dksX6_layerIn_0 1 rfl rfl)
theorem dX6_layerIn_2 : decode cX6_layerIn 2 = .ok (.putfield 25, 3) := dk_181 0 25 (dk_at dksX6_layerIn_0 2 rfl rfl)
theorem dX6_layerIn_5 : decode cX6_layerIn 5 = .ok (.aload_n 0, 1) := dk_42 (dk_at dksX6_layerIn_0 5 rfl rfl)
theorem dX6_layerIn_6 : decode cX6_layerIn 6 = .ok (.iload_n 1, 1) := dk_27 (dk_at dksX6_layerIn_0 6 rfl rfl)
theorem dX6_layerIn_7 : decode cX6_layerIn 7 = .ok (.invokevirtual 158, 3) := dk_182 0 158 (dk_at dksX6_layerIn_0 7 rfl rfl)
theorem dX6_layerIn_10 : decode cX6_layerIn 10 = .ok (.ifCond .ne 9, 3) := dk_154 0 9 (dk_at dksX6_layerIn_0 10 rfl rfl)
theorem dX6_layerIn_13 : decode cX6_layerIn 13 = .ok (.aload_n 0, 1) := dk_42 (dk_at dksX6_layerIn_0 13 rfl rfl)
theorem dX6_layerIn_14 : decode cX6_layerIn 14 = .ok (.iconst 1, 1) := dk_4 (dk_at dksX6_layerIn_0 14 rfl rfl)
theorem dX6_layerIn_15 : decode cX6_layerIn 15 = .ok (.invokevirtual 75, 3) := dk_182 0 75 (dk_at dksX6_layerIn_0 15 rfl rfl)
theorem dX6_layerIn_18 : decode cX6_layerIn 18 = .ok (.ireturn, 1) := dk_172 (dk_at dksX6_layerIn_0 18 rfl rfl)
theorem dX6_layerIn_19 : decode cX6_layerIn 19 = .ok (.iload_n 2, 1) := dk_28 (dk_at dksX6_layerIn_0 19 rfl rfl)
theorem dX6_layerIn_20 : decode cX6_layerIn 20 = .ok (.iconst 0, 1) := dk_3 (dk_at dksX6_layerIn_0 20 rfl rfl)
theorem dX6_layerIn_21 : decode cX6_layerIn 21 = .ok (.bipush 40, 2) := dk_16 40 (dk_at dksX6_layerIn_0 21 rfl rfl)
theorem dX6_layerIn_23 : decode cX6_layerIn 23 = .ok (.invokestatic 83, 3) := dk_184 0 83 (dk_at dksX6_layerIn_1 0 rfl rfl)
theorem dX6_layerIn_26 : decode cX6_layerIn 26 = .ok (.ifCond .ne 9, 3) := dk_154 0 9 (dk_at dksX6_layerIn_1 3 rfl rfl)
theorem dX6_layerIn_29 : decode cX6_layerIn 29 = .ok (.aload_n 0, 1) := dk_42 (dk_at dksX6_layerIn_1 6 rfl rfl)
theorem dX6_layerIn_30 : decode cX6_layerIn 30 = .ok (.iconst 2, 1) := dk_5 (dk_at dksX6_layerIn_1 7 rfl rfl)
theorem dX6_layerIn_31 : decode cX6_layerIn 31 = .ok (.invokevirtual 75, 3) := dk_182 0 75 (dk_at dksX6_layerIn_1 8 rfl rfl)
theorem dX6_layerIn_34 : decode cX6_layerIn 34 = .ok (.ireturn, 1) := dk_172 (dk_at dksX6_layerIn_1 11 rfl rfl)
theorem dX6_layerIn_35 : decode cX6_layerIn 35 = .ok (.aload_n 0, 1) := dk_42 (dk_at dksX6_layerIn_1 12 rfl rfl)
theorem dX6_layerIn_36 : decode cX6_layerIn 36 = .ok (.iload_n 1, 1) := dk_27 (dk_at dksX6_layerIn_1 13 rfl rfl)
theorem dX6_layerIn_37 : decode cX6_layerIn 37 = .ok (.invokevirtual 143, 3) := dk_182 0 143 (dk_at dksX6_layerIn_1 14 rfl rfl)
theorem dX6_layerIn_40 : decode cX6_layerIn 40 = .ok (.ifCond .ne 9, 3) := dk_154 0 9 (dk_at dksX6_layerIn_1 17 rfl rfl)
theorem dX6_layerIn_43 : decode cX6_layerIn 43 = .ok (.aload_n 0, 1) := dk_42 (dk_at dksX6_layerIn_1 20 rfl rfl)
theorem dX6_layerIn_44 : decode cX6_layerIn 44 = .ok (.iconst 3, 1) := dk_6 (dk_at dksX6_layerIn_1 21 rfl rfl)
theorem dX6_layerIn_45 : decode cX6_layerIn 45 = .ok (.invokevirtual 75, 3) := dk_182 0 75 (dk_at dksX6_layerIn_2 0 rfl rfl)
theorem dX6_layerIn_48 : decode cX6_layerIn 48 = .ok (.ireturn, 1) := dk_172 (dk_at dksX6_layerIn_2 3 rfl rfl)
theorem dX6_layerIn_49 : decode cX6_layerIn 49 = .ok (.iload_n 2, 1) := dk_28 (dk_at dksX6_layerIn_2 4 rfl rfl)
theorem dX6_layerIn_50 : decode cX6_layerIn 50 = .ok (.aload_n 0, 1) := dk_42 (dk_at dksX6_layerIn_2 5 rfl rfl)
theorem dX6_layerIn_51 : decode cX6_layerIn 51 = .ok (.iload_n 1, 1) := dk_27 (dk_at dksX6_layerIn_2 6 rfl rfl)
theorem dX6_layerIn_52 : decode cX6_layerIn 52 = .ok (.iconst 2, 1) := dk_5 (dk_at dksX6_layerIn_2 7 rfl rfl)
theorem dX6_layerIn_53 : decode cX6_layerIn 53 = .ok (.invokevirtual 140, 3) := dk_182 0 140 (dk_at dksX6_layerIn_2 8 rfl rfl)
theorem dX6_layerIn_56 : decode cX6_layerIn 56 = .ok (.invokestatic 131, 3) := dk_184 0 131 (dk_at dksX6_layerIn_2 11 rfl rfl)
theorem dX6_layerIn_59 : decode cX6_layerIn 59 = .ok (.istore_n 3, 1) := dk_62 (dk_at dksX6_layerIn_2 14 rfl rfl)
theorem dX6_layerIn_60 : decode cX6_layerIn 60 = .ok (.iconst (-1), 1) := dk_2 (dk_at dksX6_layerIn_2 15 rfl rfl)
theorem dX6_layerIn_61 : decode cX6_layerIn 61 = .ok (.iconst 3, 1) := dk_6 (dk_at dksX6_layerIn_2 16 rfl rfl)
theorem dX6_layerIn_62 : decode cX6_layerIn 62 = .ok (.aload_n 0, 1) := dk_42 (dk_at dksX6_layerIn_2 17 rfl rfl)
theorem dX6_layerIn_63 : decode cX6_layerIn 63 = .ok (.iload_n 1, 1) := dk_27 (dk_at dksX6_layerIn_2 18 rfl rfl)
theorem dX6_layerIn_64 : decode cX6_layerIn 64 = .ok (.iconst 4, 1) := dk_7 (dk_at dksX6_layerIn_2 19 rfl rfl)
theorem dX6_layerIn_65 : decode cX6_layerIn 65 = .ok (.invokevirtual 140, 3) := dk_182 0 140 (dk_at dksX6_layerIn_2 20 rfl rfl)
theorem dX6_layerIn_68 : decode cX6_layerIn 68 = .ok (.iload_n 3, 1) := dk_29 (dk_at dksX6_layerIn_2 23 rfl rfl)
theorem dX6_layerIn_69 : decode cX6_layerIn 69 = .ok (.iadd, 1) := dk_96 (dk_at dksX6_layerIn_3 0 rfl rfl)
theorem dX6_layerIn_70 : decode cX6_layerIn 70 = .ok (.invokestatic 131, 3) := dk_184 0 131 (dk_at dksX6_layerIn_3 1 rfl rfl)
theorem dX6_layerIn_73 : decode cX6_layerIn 73 = .ok (.iload_n 2, 1) := dk_28 (dk_at dksX6_layerIn_3 4 rfl rfl)
theorem dX6_layerIn_74 : decode cX6_layerIn 74 = .ok (.iload_n 3, 1) := dk_29 (dk_at dksX6_layerIn_3 5 rfl rfl)
theorem dX6_layerIn_75 : decode cX6_layerIn 75 = .ok (.isub, 1) := dk_100 (dk_at dksX6_layerIn_3 6 rfl rfl)
theorem dX6_layerIn_76 : decode cX6_layerIn 76 = .ok (.isub, 1) := dk_100 (dk_at dksX6_layerIn_3 7 rfl rfl)
theorem dX6_layerIn_77 : decode cX6_layerIn 77 = .ok (.invokestatic 197, 3) := dk_184 0 197 (dk_at dksX6_layerIn_3 8 rfl rfl)
theorem dX6_layerIn_80 : decode cX6_layerIn 80 = .ok (.ireturn, 1) := dk_172 (dk_at dksX6_layerIn_3 11 rfl rfl)
abbrev kX6_layerIn : KX := (cX6_layerIn, "TissueBalloonsModel", "layerIn", 4, some .int, [], 2)
abbrev cX6_layerAgain : ByteArray := prog_14_method_68_code
def yX6_layerAgain : MethodName := ⟨RX6, "layerAgain", "(II)I"⟩
def dkwX6_layerAgain_4 : List UInt8 := [21, 4, 4, 100, 54, 4, 132, 3, 255, 132, 5, 1, 167, 255, 218, 21, 4, 172]
abbrev dktX6_layerAgain_4 : List UInt8 := dkwX6_layerAgain_4 ++ []
def dkwX6_layerAgain_3 : List UInt8 := [28, 162, 0, 38, 21, 4, 155, 0, 33, 29, 158, 0, 14, 6, 21, 4, 4, 96, 184, 0, 131, 167, 0, 7]
abbrev dktX6_layerAgain_3 : List UInt8 := dkwX6_layerAgain_3 ++ dktX6_layerAgain_4
def dkwX6_layerAgain_2 : List UInt8 := [182, 0, 75, 172, 42, 27, 5, 182, 0, 140, 62, 42, 27, 7, 182, 0, 140, 54, 4, 3, 54, 5, 21, 5]
abbrev dktX6_layerAgain_2 : List UInt8 := dkwX6_layerAgain_2 ++ dktX6_layerAgain_3
def dkwX6_layerAgain_1 : List UInt8 := [184, 0, 83, 154, 0, 9, 42, 5, 182, 0, 75, 172, 42, 27, 182, 0, 143, 154, 0, 9, 42, 6]
abbrev dktX6_layerAgain_1 : List UInt8 := dkwX6_layerAgain_1 ++ dktX6_layerAgain_2
def dkwX6_layerAgain_0 : List UInt8 := [42, 3, 181, 0, 25, 42, 27, 182, 0, 158, 154, 0, 9, 42, 4, 182, 0, 75, 172, 28, 3, 16, 40]
abbrev dktX6_layerAgain_0 : List UInt8 := dkwX6_layerAgain_0 ++ dktX6_layerAgain_1
theorem dksX6_layerAgain_0 : cX6_layerAgain.data.toList.drop 0 = dktX6_layerAgain_0 := by decide +kernel
theorem dksX6_layerAgain_1 : cX6_layerAgain.data.toList.drop 23 = dktX6_layerAgain_1 := dk_seg dksX6_layerAgain_0 23 rfl rfl
theorem dksX6_layerAgain_2 : cX6_layerAgain.data.toList.drop 45 = dktX6_layerAgain_2 := dk_seg dksX6_layerAgain_1 22 rfl rfl
theorem dksX6_layerAgain_3 : cX6_layerAgain.data.toList.drop 69 = dktX6_layerAgain_3 := dk_seg dksX6_layerAgain_2 24 rfl rfl
theorem dksX6_layerAgain_4 : cX6_layerAgain.data.toList.drop 93 = dktX6_layerAgain_4 := dk_seg dksX6_layerAgain_3 24 rfl rfl
theorem dX6_layerAgain_0 : decode cX6_layerAgain 0 = .ok (.aload_n 0, 1) := dk_42 (dk_at dksX6_layerAgain_0 0 rfl rfl)
theorem dX6_layerAgain_1 : decode cX6_layerAgain 1 = .ok (.iconst 0, 1) := dk_3 (dk_at dksX6_layerAgain_0 1 rfl rfl)
theorem dX6_layerAgain_2 : decode cX6_layerAgain 2 = .ok (.putfield 25, 3) := dk_181 0 25 (dk_at dksX6_layerAgain_0 2 rfl rfl)
theorem dX6_layerAgain_5 : decode cX6_layerAgain 5 = .ok (.aload_n 0, 1) := dk_42 (dk_at dksX6_layerAgain_0 5 rfl rfl)
theorem dX6_layerAgain_6 : decode cX6_layerAgain 6 = .ok (.iload_n 1, 1) := dk_27 (dk_at dksX6_layerAgain_0 6 rfl rfl)
theorem dX6_layerAgain_7 : decode cX6_layerAgain 7 = .ok (.invokevirtual 158, 3) := dk_182 0 158 (dk_at dksX6_layerAgain_0 7 rfl rfl)
theorem dX6_layerAgain_10 : decode cX6_layerAgain 10 = .ok (.ifCond .ne 9, 3) := dk_154 0 9 (dk_at dksX6_layerAgain_0 10 rfl rfl)
theorem dX6_layerAgain_13 : decode cX6_layerAgain 13 = .ok (.aload_n 0, 1) := dk_42 (dk_at dksX6_layerAgain_0 13 rfl rfl)
theorem dX6_layerAgain_14 : decode cX6_layerAgain 14 = .ok (.iconst 1, 1) := dk_4 (dk_at dksX6_layerAgain_0 14 rfl rfl)
theorem dX6_layerAgain_15 : decode cX6_layerAgain 15 = .ok (.invokevirtual 75, 3) := dk_182 0 75 (dk_at dksX6_layerAgain_0 15 rfl rfl)
theorem dX6_layerAgain_18 : decode cX6_layerAgain 18 = .ok (.ireturn, 1) := dk_172 (dk_at dksX6_layerAgain_0 18 rfl rfl)
theorem dX6_layerAgain_19 : decode cX6_layerAgain 19 = .ok (.iload_n 2, 1) := dk_28 (dk_at dksX6_layerAgain_0 19 rfl rfl)
theorem dX6_layerAgain_20 : decode cX6_layerAgain 20 = .ok (.iconst 0, 1) := dk_3 (dk_at dksX6_layerAgain_0 20 rfl rfl)
theorem dX6_layerAgain_21 : decode cX6_layerAgain 21 = .ok (.bipush 40, 2) := dk_16 40 (dk_at dksX6_layerAgain_0 21 rfl rfl)
theorem dX6_layerAgain_23 : decode cX6_layerAgain 23 = .ok (.invokestatic 83, 3) := dk_184 0 83 (dk_at dksX6_layerAgain_1 0 rfl rfl)
theorem dX6_layerAgain_26 : decode cX6_layerAgain 26 = .ok (.ifCond .ne 9, 3) := dk_154 0 9 (dk_at dksX6_layerAgain_1 3 rfl rfl)
theorem dX6_layerAgain_29 : decode cX6_layerAgain 29 = .ok (.aload_n 0, 1) := dk_42 (dk_at dksX6_layerAgain_1 6 rfl rfl)
theorem dX6_layerAgain_30 : decode cX6_layerAgain 30 = .ok (.iconst 2, 1) := dk_5 (dk_at dksX6_layerAgain_1 7 rfl rfl)
theorem dX6_layerAgain_31 : decode cX6_layerAgain 31 = .ok (.invokevirtual 75, 3) := dk_182 0 75 (dk_at dksX6_layerAgain_1 8 rfl rfl)
theorem dX6_layerAgain_34 : decode cX6_layerAgain 34 = .ok (.ireturn, 1) := dk_172 (dk_at dksX6_layerAgain_1 11 rfl rfl)
theorem dX6_layerAgain_35 : decode cX6_layerAgain 35 = .ok (.aload_n 0, 1) := dk_42 (dk_at dksX6_layerAgain_1 12 rfl rfl)
theorem dX6_layerAgain_36 : decode cX6_layerAgain 36 = .ok (.iload_n 1, 1) := dk_27 (dk_at dksX6_layerAgain_1 13 rfl rfl)
theorem dX6_layerAgain_37 : decode cX6_layerAgain 37 = .ok (.invokevirtual 143, 3) := dk_182 0 143 (dk_at dksX6_layerAgain_1 14 rfl rfl)
theorem dX6_layerAgain_40 : decode cX6_layerAgain 40 = .ok (.ifCond .ne 9, 3) := dk_154 0 9 (dk_at dksX6_layerAgain_1 17 rfl rfl)
theorem dX6_layerAgain_43 : decode cX6_layerAgain 43 = .ok (.aload_n 0, 1) := dk_42 (dk_at dksX6_layerAgain_1 20 rfl rfl)
theorem dX6_layerAgain_44 : decode cX6_layerAgain 44 = .ok (.iconst 3, 1) := dk_6 (dk_at dksX6_layerAgain_1 21 rfl rfl)
theorem dX6_layerAgain_45 : decode cX6_layerAgain 45 = .ok (.invokevirtual 75, 3) := dk_182 0 75 (dk_at dksX6_layerAgain_2 0 rfl rfl)
theorem dX6_layerAgain_48 : decode cX6_layerAgain 48 = .ok (.ireturn, 1) := dk_172 (dk_at dksX6_layerAgain_2 3 rfl rfl)
theorem dX6_layerAgain_49 : decode cX6_layerAgain 49 = .ok (.aload_n 0, 1) := dk_42 (dk_at dksX6_layerAgain_2 4 rfl rfl)
theorem dX6_layerAgain_50 : decode cX6_layerAgain 50 = .ok (.iload_n 1, 1) := dk_27 (dk_at dksX6_layerAgain_2 5 rfl rfl)
theorem dX6_layerAgain_51 : decode cX6_layerAgain 51 = .ok (.iconst 2, 1) := dk_5 (dk_at dksX6_layerAgain_2 6 rfl rfl)
theorem dX6_layerAgain_52 : decode cX6_layerAgain 52 = .ok (.invokevirtual 140, 3) := dk_182 0 140 (dk_at dksX6_layerAgain_2 7 rfl rfl)
theorem dX6_layerAgain_55 : decode cX6_layerAgain 55 = .ok (.istore_n 3, 1) := dk_62 (dk_at dksX6_layerAgain_2 10 rfl rfl)
theorem dX6_layerAgain_56 : decode cX6_layerAgain 56 = .ok (.aload_n 0, 1) := dk_42 (dk_at dksX6_layerAgain_2 11 rfl rfl)
theorem dX6_layerAgain_57 : decode cX6_layerAgain 57 = .ok (.iload_n 1, 1) := dk_27 (dk_at dksX6_layerAgain_2 12 rfl rfl)
theorem dX6_layerAgain_58 : decode cX6_layerAgain 58 = .ok (.iconst 4, 1) := dk_7 (dk_at dksX6_layerAgain_2 13 rfl rfl)
theorem dX6_layerAgain_59 : decode cX6_layerAgain 59 = .ok (.invokevirtual 140, 3) := dk_182 0 140 (dk_at dksX6_layerAgain_2 14 rfl rfl)
theorem dX6_layerAgain_62 : decode cX6_layerAgain 62 = .ok (.istore 4, 2) := dk_54 4 (dk_at dksX6_layerAgain_2 17 rfl rfl)
theorem dX6_layerAgain_64 : decode cX6_layerAgain 64 = .ok (.iconst 0, 1) := dk_3 (dk_at dksX6_layerAgain_2 19 rfl rfl)
theorem dX6_layerAgain_65 : decode cX6_layerAgain 65 = .ok (.istore 5, 2) := dk_54 5 (dk_at dksX6_layerAgain_2 20 rfl rfl)
theorem dX6_layerAgain_67 : decode cX6_layerAgain 67 = .ok (.iload 5, 2) := dk_21 5 (dk_at dksX6_layerAgain_2 22 rfl rfl)
theorem dX6_layerAgain_69 : decode cX6_layerAgain 69 = .ok (.iload_n 2, 1) := dk_28 (dk_at dksX6_layerAgain_3 0 rfl rfl)
theorem dX6_layerAgain_70 : decode cX6_layerAgain 70 = .ok (.if_icmp .ge 38, 3) := dk_162 0 38 (dk_at dksX6_layerAgain_3 1 rfl rfl)
theorem dX6_layerAgain_73 : decode cX6_layerAgain 73 = .ok (.iload 4, 2) := dk_21 4 (dk_at dksX6_layerAgain_3 4 rfl rfl)
theorem dX6_layerAgain_75 : decode cX6_layerAgain 75 = .ok (.ifCond .lt 33, 3) := dk_155 0 33 (dk_at dksX6_layerAgain_3 6 rfl rfl)
theorem dX6_layerAgain_78 : decode cX6_layerAgain 78 = .ok (.iload_n 3, 1) := dk_29 (dk_at dksX6_layerAgain_3 9 rfl rfl)
theorem dX6_layerAgain_79 : decode cX6_layerAgain 79 = .ok (.ifCond .le 14, 3) := dk_158 0 14 (dk_at dksX6_layerAgain_3 10 rfl rfl)
theorem dX6_layerAgain_82 : decode cX6_layerAgain 82 = .ok (.iconst 3, 1) := dk_6 (dk_at dksX6_layerAgain_3 13 rfl rfl)
theorem dX6_layerAgain_83 : decode cX6_layerAgain 83 = .ok (.iload 4, 2) := dk_21 4 (dk_at dksX6_layerAgain_3 14 rfl rfl)
theorem dX6_layerAgain_85 : decode cX6_layerAgain 85 = .ok (.iconst 1, 1) := dk_4 (dk_at dksX6_layerAgain_3 16 rfl rfl)
theorem dX6_layerAgain_86 : decode cX6_layerAgain 86 = .ok (.iadd, 1) := dk_96 (dk_at dksX6_layerAgain_3 17 rfl rfl)
theorem dX6_layerAgain_87 : decode cX6_layerAgain 87 = .ok (.invokestatic 131, 3) := dk_184 0 131 (dk_at dksX6_layerAgain_3 18 rfl rfl)
theorem dX6_layerAgain_90 : decode cX6_layerAgain 90 = .ok (.goto 7, 3) := dk_167 0 7 (dk_at dksX6_layerAgain_3 21 rfl rfl)
theorem dX6_layerAgain_93 : decode cX6_layerAgain 93 = .ok (.iload 4, 2) := dk_21 4 (dk_at dksX6_layerAgain_4 0 rfl rfl)
theorem dX6_layerAgain_95 : decode cX6_layerAgain 95 = .ok (.iconst 1, 1) := dk_4 (dk_at dksX6_layerAgain_4 2 rfl rfl)
theorem dX6_layerAgain_96 : decode cX6_layerAgain 96 = .ok (.isub, 1) := dk_100 (dk_at dksX6_layerAgain_4 3 rfl rfl)
theorem dX6_layerAgain_97 : decode cX6_layerAgain 97 = .ok (.istore 4, 2) := dk_54 4 (dk_at dksX6_layerAgain_4 4 rfl rfl)
theorem dX6_layerAgain_99 : decode cX6_layerAgain 99 = .ok (.iinc 3 (-1), 3) := dk_132 3 255 (dk_at dksX6_layerAgain_4 6 rfl rfl)
theorem dX6_layerAgain_102 : decode cX6_layerAgain 102 = .ok (.iinc 5 1, 3) := dk_132 5 1 (dk_at dksX6_layerAgain_4 9 rfl rfl)
theorem dX6_layerAgain_105 : decode cX6_layerAgain 105 = .ok (.goto (-38), 3) := dk_167 255 218 (dk_at dksX6_layerAgain_4 12 rfl rfl)
theorem dX6_layerAgain_108 : decode cX6_layerAgain 108 = .ok (.iload 4, 2) := dk_21 4 (dk_at dksX6_layerAgain_4 15 rfl rfl)
theorem dX6_layerAgain_110 : decode cX6_layerAgain 110 = .ok (.ireturn, 1) := dk_172 (dk_at dksX6_layerAgain_4 17 rfl rfl)
abbrev kX6_layerAgain : KX := (cX6_layerAgain, "TissueBalloonsModel", "layerAgain", 6, some .int, [], 2)
abbrev cX6_would : ByteArray := prog_14_method_69_code
def yX6_would : MethodName := ⟨RX6, "would", "(II)I"⟩
def dkwX6_would_5 : List UInt8 := [3, 42, 180, 0, 7, 3, 184, 0, 79, 21, 5, 172]
abbrev dktX6_would_5 : List UInt8 := dkwX6_would_5 ++ []
def dkwX6_would_4 : List UInt8 := [167, 0, 18, 42, 27, 28, 4, 160, 0, 7, 3, 167, 0, 4, 8, 182, 0, 140, 54, 5, 42, 180, 0, 16]
abbrev dktX6_would_4 : List UInt8 := dkwX6_would_4 ++ dktX6_would_5
def dkwX6_would_3 : List UInt8 := [182, 0, 143, 153, 0, 15, 42, 182, 0, 209, 54, 4, 132, 3, 1, 167, 255, 239, 28, 154, 0, 7, 29]
abbrev dktX6_would_3 : List UInt8 := dkwX6_would_3 ++ dktX6_would_4
def dkwX6_would_2 : List UInt8 := [182, 0, 75, 172, 42, 180, 0, 7, 3, 42, 180, 0, 16, 3, 184, 0, 79, 3, 62, 3, 54, 4, 42, 27]
abbrev dktX6_would_2 : List UInt8 := dkwX6_would_2 ++ dktX6_would_3
def dkwX6_would_1 : List UInt8 := [184, 0, 83, 154, 0, 9, 42, 5, 182, 0, 75, 172, 42, 27, 182, 0, 143, 154, 0, 9, 42, 6]
abbrev dktX6_would_1 : List UInt8 := dkwX6_would_1 ++ dktX6_would_2
def dkwX6_would_0 : List UInt8 := [42, 3, 181, 0, 25, 42, 27, 182, 0, 158, 154, 0, 9, 42, 4, 182, 0, 75, 172, 28, 3, 5]
abbrev dktX6_would_0 : List UInt8 := dkwX6_would_0 ++ dktX6_would_1
theorem dksX6_would_0 : cX6_would.data.toList.drop 0 = dktX6_would_0 := by decide +kernel
theorem dksX6_would_1 : cX6_would.data.toList.drop 22 = dktX6_would_1 := dk_seg dksX6_would_0 22 rfl rfl
theorem dksX6_would_2 : cX6_would.data.toList.drop 44 = dktX6_would_2 := dk_seg dksX6_would_1 22 rfl rfl
theorem dksX6_would_3 : cX6_would.data.toList.drop 68 = dktX6_would_3 := dk_seg dksX6_would_2 24 rfl rfl
theorem dksX6_would_4 : cX6_would.data.toList.drop 91 = dktX6_would_4 := dk_seg dksX6_would_3 23 rfl rfl
theorem dksX6_would_5 : cX6_would.data.toList.drop 115 = dktX6_would_5 := dk_seg dksX6_would_4 24 rfl rfl
theorem dX6_would_0 : decode cX6_would 0 = .ok (.aload_n 0, 1) := dk_42 (dk_at dksX6_would_0 0 rfl rfl)
theorem dX6_would_1 : decode cX6_would 1 = .ok (.iconst 0, 1) := dk_3 (dk_at dksX6_would_0 1 rfl rfl)
theorem dX6_would_2 : decode cX6_would 2 = .ok (.putfield 25, 3) := dk_181 0 25 (dk_at dksX6_would_0 2 rfl rfl)
theorem dX6_would_5 : decode cX6_would 5 = .ok (.aload_n 0, 1) := dk_42 (dk_at dksX6_would_0 5 rfl rfl)
theorem dX6_would_6 : decode cX6_would 6 = .ok (.iload_n 1, 1) := dk_27 (dk_at dksX6_would_0 6 rfl rfl)
theorem dX6_would_7 : decode cX6_would 7 = .ok (.invokevirtual 158, 3) := dk_182 0 158 (dk_at dksX6_would_0 7 rfl rfl)
theorem dX6_would_10 : decode cX6_would 10 = .ok (.ifCond .ne 9, 3) := dk_154 0 9 (dk_at dksX6_would_0 10 rfl rfl)
theorem dX6_would_13 : decode cX6_would 13 = .ok (.aload_n 0, 1) := dk_42 (dk_at dksX6_would_0 13 rfl rfl)
theorem dX6_would_14 : decode cX6_would 14 = .ok (.iconst 1, 1) := dk_4 (dk_at dksX6_would_0 14 rfl rfl)
theorem dX6_would_15 : decode cX6_would 15 = .ok (.invokevirtual 75, 3) := dk_182 0 75 (dk_at dksX6_would_0 15 rfl rfl)
theorem dX6_would_18 : decode cX6_would 18 = .ok (.ireturn, 1) := dk_172 (dk_at dksX6_would_0 18 rfl rfl)
theorem dX6_would_19 : decode cX6_would 19 = .ok (.iload_n 2, 1) := dk_28 (dk_at dksX6_would_0 19 rfl rfl)
theorem dX6_would_20 : decode cX6_would 20 = .ok (.iconst 0, 1) := dk_3 (dk_at dksX6_would_0 20 rfl rfl)
theorem dX6_would_21 : decode cX6_would 21 = .ok (.iconst 2, 1) := dk_5 (dk_at dksX6_would_0 21 rfl rfl)
theorem dX6_would_22 : decode cX6_would 22 = .ok (.invokestatic 83, 3) := dk_184 0 83 (dk_at dksX6_would_1 0 rfl rfl)
theorem dX6_would_25 : decode cX6_would 25 = .ok (.ifCond .ne 9, 3) := dk_154 0 9 (dk_at dksX6_would_1 3 rfl rfl)
theorem dX6_would_28 : decode cX6_would 28 = .ok (.aload_n 0, 1) := dk_42 (dk_at dksX6_would_1 6 rfl rfl)
theorem dX6_would_29 : decode cX6_would 29 = .ok (.iconst 2, 1) := dk_5 (dk_at dksX6_would_1 7 rfl rfl)
theorem dX6_would_30 : decode cX6_would 30 = .ok (.invokevirtual 75, 3) := dk_182 0 75 (dk_at dksX6_would_1 8 rfl rfl)
theorem dX6_would_33 : decode cX6_would 33 = .ok (.ireturn, 1) := dk_172 (dk_at dksX6_would_1 11 rfl rfl)
theorem dX6_would_34 : decode cX6_would 34 = .ok (.aload_n 0, 1) := dk_42 (dk_at dksX6_would_1 12 rfl rfl)
theorem dX6_would_35 : decode cX6_would 35 = .ok (.iload_n 1, 1) := dk_27 (dk_at dksX6_would_1 13 rfl rfl)
theorem dX6_would_36 : decode cX6_would 36 = .ok (.invokevirtual 143, 3) := dk_182 0 143 (dk_at dksX6_would_1 14 rfl rfl)
theorem dX6_would_39 : decode cX6_would 39 = .ok (.ifCond .ne 9, 3) := dk_154 0 9 (dk_at dksX6_would_1 17 rfl rfl)
theorem dX6_would_42 : decode cX6_would 42 = .ok (.aload_n 0, 1) := dk_42 (dk_at dksX6_would_1 20 rfl rfl)
theorem dX6_would_43 : decode cX6_would 43 = .ok (.iconst 3, 1) := dk_6 (dk_at dksX6_would_1 21 rfl rfl)
theorem dX6_would_44 : decode cX6_would 44 = .ok (.invokevirtual 75, 3) := dk_182 0 75 (dk_at dksX6_would_2 0 rfl rfl)
theorem dX6_would_47 : decode cX6_would 47 = .ok (.ireturn, 1) := dk_172 (dk_at dksX6_would_2 3 rfl rfl)
theorem dX6_would_48 : decode cX6_would 48 = .ok (.aload_n 0, 1) := dk_42 (dk_at dksX6_would_2 4 rfl rfl)
theorem dX6_would_49 : decode cX6_would 49 = .ok (.getfield 7, 3) := dk_180 0 7 (dk_at dksX6_would_2 5 rfl rfl)
theorem dX6_would_52 : decode cX6_would 52 = .ok (.iconst 0, 1) := dk_3 (dk_at dksX6_would_2 8 rfl rfl)
theorem dX6_would_53 : decode cX6_would 53 = .ok (.aload_n 0, 1) := dk_42 (dk_at dksX6_would_2 9 rfl rfl)
theorem dX6_would_54 : decode cX6_would 54 = .ok (.getfield 16, 3) := dk_180 0 16 (dk_at dksX6_would_2 10 rfl rfl)
theorem dX6_would_57 : decode cX6_would 57 = .ok (.iconst 0, 1) := dk_3 (dk_at dksX6_would_2 13 rfl rfl)
theorem dX6_would_58 : decode cX6_would 58 = .ok (.invokestatic 79, 3) := dk_184 0 79 (dk_at dksX6_would_2 14 rfl rfl)
theorem dX6_would_61 : decode cX6_would 61 = .ok (.iconst 0, 1) := dk_3 (dk_at dksX6_would_2 17 rfl rfl)
theorem dX6_would_62 : decode cX6_would 62 = .ok (.istore_n 3, 1) := dk_62 (dk_at dksX6_would_2 18 rfl rfl)
theorem dX6_would_63 : decode cX6_would 63 = .ok (.iconst 0, 1) := dk_3 (dk_at dksX6_would_2 19 rfl rfl)
theorem dX6_would_64 : decode cX6_would 64 = .ok (.istore 4, 2) := dk_54 4 (dk_at dksX6_would_2 20 rfl rfl)
theorem dX6_would_66 : decode cX6_would 66 = .ok (.aload_n 0, 1) := dk_42 (dk_at dksX6_would_2 22 rfl rfl)
theorem dX6_would_67 : decode cX6_would 67 = .ok (.iload_n 1, 1) := dk_27 (dk_at dksX6_would_2 23 rfl rfl)
theorem dX6_would_68 : decode cX6_would 68 = .ok (.invokevirtual 143, 3) := dk_182 0 143 (dk_at dksX6_would_3 0 rfl rfl)
theorem dX6_would_71 : decode cX6_would 71 = .ok (.ifCond .eq 15, 3) := dk_153 0 15 (dk_at dksX6_would_3 3 rfl rfl)
theorem dX6_would_74 : decode cX6_would 74 = .ok (.aload_n 0, 1) := dk_42 (dk_at dksX6_would_3 6 rfl rfl)
theorem dX6_would_75 : decode cX6_would 75 = .ok (.invokevirtual 209, 3) := dk_182 0 209 (dk_at dksX6_would_3 7 rfl rfl)
theorem dX6_would_78 : decode cX6_would 78 = .ok (.istore 4, 2) := dk_54 4 (dk_at dksX6_would_3 10 rfl rfl)
theorem dX6_would_80 : decode cX6_would 80 = .ok (.iinc 3 1, 3) := dk_132 3 1 (dk_at dksX6_would_3 12 rfl rfl)
theorem dX6_would_83 : decode cX6_would 83 = .ok (.goto (-17), 3) := dk_167 255 239 (dk_at dksX6_would_3 15 rfl rfl)
theorem dX6_would_86 : decode cX6_would 86 = .ok (.iload_n 2, 1) := dk_28 (dk_at dksX6_would_3 18 rfl rfl)
theorem dX6_would_87 : decode cX6_would 87 = .ok (.ifCond .ne 7, 3) := dk_154 0 7 (dk_at dksX6_would_3 19 rfl rfl)
theorem dX6_would_90 : decode cX6_would 90 = .ok (.iload_n 3, 1) := dk_29 (dk_at dksX6_would_3 22 rfl rfl)
theorem dX6_would_91 : decode cX6_would 91 = .ok (.goto 18, 3) := dk_167 0 18 (dk_at dksX6_would_4 0 rfl rfl)
theorem dX6_would_94 : decode cX6_would 94 = .ok (.aload_n 0, 1) := dk_42 (dk_at dksX6_would_4 3 rfl rfl)
theorem dX6_would_95 : decode cX6_would 95 = .ok (.iload_n 1, 1) := dk_27 (dk_at dksX6_would_4 4 rfl rfl)
theorem dX6_would_96 : decode cX6_would 96 = .ok (.iload_n 2, 1) := dk_28 (dk_at dksX6_would_4 5 rfl rfl)
theorem dX6_would_97 : decode cX6_would 97 = .ok (.iconst 1, 1) := dk_4 (dk_at dksX6_would_4 6 rfl rfl)
theorem dX6_would_98 : decode cX6_would 98 = .ok (.if_icmp .ne 7, 3) := dk_160 0 7 (dk_at dksX6_would_4 7 rfl rfl)
theorem dX6_would_101 : decode cX6_would 101 = .ok (.iconst 0, 1) := dk_3 (dk_at dksX6_would_4 10 rfl rfl)
theorem dX6_would_102 : decode cX6_would 102 = .ok (.goto 4, 3) := dk_167 0 4 (dk_at dksX6_would_4 11 rfl rfl)
theorem dX6_would_105 : decode cX6_would 105 = .ok (.iconst 5, 1) := dk_8 (dk_at dksX6_would_4 14 rfl rfl)
theorem dX6_would_106 : decode cX6_would 106 = .ok (.invokevirtual 140, 3) := dk_182 0 140 (dk_at dksX6_would_4 15 rfl rfl)
theorem dX6_would_109 : decode cX6_would 109 = .ok (.istore 5, 2) := dk_54 5 (dk_at dksX6_would_4 18 rfl rfl)
theorem dX6_would_111 : decode cX6_would 111 = .ok (.aload_n 0, 1) := dk_42 (dk_at dksX6_would_4 20 rfl rfl)
theorem dX6_would_112 : decode cX6_would 112 = .ok (.getfield 16, 3) := dk_180 0 16 (dk_at dksX6_would_4 21 rfl rfl)
theorem dX6_would_115 : decode cX6_would 115 = .ok (.iconst 0, 1) := dk_3 (dk_at dksX6_would_5 0 rfl rfl)
theorem dX6_would_116 : decode cX6_would 116 = .ok (.aload_n 0, 1) := dk_42 (dk_at dksX6_would_5 1 rfl rfl)
theorem dX6_would_117 : decode cX6_would 117 = .ok (.getfield 7, 3) := dk_180 0 7 (dk_at dksX6_would_5 2 rfl rfl)
theorem dX6_would_120 : decode cX6_would 120 = .ok (.iconst 0, 1) := dk_3 (dk_at dksX6_would_5 5 rfl rfl)
theorem dX6_would_121 : decode cX6_would 121 = .ok (.invokestatic 79, 3) := dk_184 0 79 (dk_at dksX6_would_5 6 rfl rfl)
theorem dX6_would_124 : decode cX6_would 124 = .ok (.iload 5, 2) := dk_21 5 (dk_at dksX6_would_5 9 rfl rfl)
theorem dX6_would_126 : decode cX6_would 126 = .ok (.ireturn, 1) := dk_172 (dk_at dksX6_would_5 11 rfl rfl)
abbrev kX6_would : KX := (cX6_would, "TissueBalloonsModel", "would", 6, some .int, [], 6)
abbrev cX6_append : ByteArray := prog_14_method_70_code
def yX6_append : MethodName := ⟨RX6, "append", "(C)I"⟩
def dkwX6_append_1 : List UInt8 := [42, 180, 0, 60, 27, 79, 42, 89, 180, 0, 60, 4, 96, 181, 0, 60, 42, 180, 0, 60, 172]
abbrev dktX6_append_1 : List UInt8 := dkwX6_append_1 ++ []
def dkwX6_append_0 : List UInt8 := [42, 3, 181, 0, 25, 42, 180, 0, 60, 16, 60, 160, 0, 9, 42, 4, 182, 0, 75, 172, 42, 180, 0, 48]
abbrev dktX6_append_0 : List UInt8 := dkwX6_append_0 ++ dktX6_append_1
theorem dksX6_append_0 : cX6_append.data.toList.drop 0 = dktX6_append_0 := by decide +kernel
theorem dksX6_append_1 : cX6_append.data.toList.drop 24 = dktX6_append_1 := dk_seg dksX6_append_0 24 rfl rfl
theorem dX6_append_0 : decode cX6_append 0 = .ok (.aload_n 0, 1) := dk_42 (dk_at dksX6_append_0 0 rfl rfl)
theorem dX6_append_1 : decode cX6_append 1 = .ok (.iconst 0, 1) := dk_3 (dk_at dksX6_append_0 1 rfl rfl)
theorem dX6_append_2 : decode cX6_append 2 = .ok (.putfield 25, 3) := dk_181 0 25 (dk_at dksX6_append_0 2 rfl rfl)
theorem dX6_append_5 : decode cX6_append 5 = .ok (.aload_n 0, 1) := dk_42 (dk_at dksX6_append_0 5 rfl rfl)
theorem dX6_append_6 : decode cX6_append 6 = .ok (.getfield 60, 3) := dk_180 0 60 (dk_at dksX6_append_0 6 rfl rfl)
theorem dX6_append_9 : decode cX6_append 9 = .ok (.bipush 60, 2) := dk_16 60 (dk_at dksX6_append_0 9 rfl rfl)
theorem dX6_append_11 : decode cX6_append 11 = .ok (.if_icmp .ne 9, 3) := dk_160 0 9 (dk_at dksX6_append_0 11 rfl rfl)
theorem dX6_append_14 : decode cX6_append 14 = .ok (.aload_n 0, 1) := dk_42 (dk_at dksX6_append_0 14 rfl rfl)
theorem dX6_append_15 : decode cX6_append 15 = .ok (.iconst 1, 1) := dk_4 (dk_at dksX6_append_0 15 rfl rfl)
theorem dX6_append_16 : decode cX6_append 16 = .ok (.invokevirtual 75, 3) := dk_182 0 75 (dk_at dksX6_append_0 16 rfl rfl)
theorem dX6_append_19 : decode cX6_append 19 = .ok (.ireturn, 1) := dk_172 (dk_at dksX6_append_0 19 rfl rfl)
theorem dX6_append_20 : decode cX6_append 20 = .ok (.aload_n 0, 1) := dk_42 (dk_at dksX6_append_0 20 rfl rfl)
theorem dX6_append_21 : decode cX6_append 21 = .ok (.getfield 48, 3) := dk_180 0 48 (dk_at dksX6_append_0 21 rfl rfl)
theorem dX6_append_24 : decode cX6_append 24 = .ok (.aload_n 0, 1) := dk_42 (dk_at dksX6_append_1 0 rfl rfl)
theorem dX6_append_25 : decode cX6_append 25 = .ok (.getfield 60, 3) := dk_180 0 60 (dk_at dksX6_append_1 1 rfl rfl)
theorem dX6_append_28 : decode cX6_append 28 = .ok (.iload_n 1, 1) := dk_27 (dk_at dksX6_append_1 4 rfl rfl)
theorem dX6_append_29 : decode cX6_append 29 = .ok (.iastore, 1) := dk_79 (dk_at dksX6_append_1 5 rfl rfl)
theorem dX6_append_30 : decode cX6_append 30 = .ok (.aload_n 0, 1) := dk_42 (dk_at dksX6_append_1 6 rfl rfl)
theorem dX6_append_31 : decode cX6_append 31 = .ok (.dup, 1) := dk_89 (dk_at dksX6_append_1 7 rfl rfl)
theorem dX6_append_32 : decode cX6_append 32 = .ok (.getfield 60, 3) := dk_180 0 60 (dk_at dksX6_append_1 8 rfl rfl)
theorem dX6_append_35 : decode cX6_append 35 = .ok (.iconst 1, 1) := dk_4 (dk_at dksX6_append_1 11 rfl rfl)
theorem dX6_append_36 : decode cX6_append 36 = .ok (.iadd, 1) := dk_96 (dk_at dksX6_append_1 12 rfl rfl)
theorem dX6_append_37 : decode cX6_append 37 = .ok (.putfield 60, 3) := dk_181 0 60 (dk_at dksX6_append_1 13 rfl rfl)
theorem dX6_append_40 : decode cX6_append 40 = .ok (.aload_n 0, 1) := dk_42 (dk_at dksX6_append_1 16 rfl rfl)
theorem dX6_append_41 : decode cX6_append 41 = .ok (.getfield 60, 3) := dk_180 0 60 (dk_at dksX6_append_1 17 rfl rfl)
theorem dX6_append_44 : decode cX6_append 44 = .ok (.ireturn, 1) := dk_172 (dk_at dksX6_append_1 20 rfl rfl)
abbrev kX6_append : KX := (cX6_append, "TissueBalloonsModel", "append", 2, some .int, [], 1)
abbrev cX6_read : ByteArray := prog_14_method_79_code
def yX6_read : MethodName := ⟨RX6, "read", "()I"⟩
def dkwX6_read_4 : List UInt8 := [182, 0, 117, 172, 132, 1, 1, 167, 255, 200, 42, 42, 180, 0, 66, 182, 0, 101, 172]
abbrev dktX6_read_4 : List UInt8 := dkwX6_read_4 ++ []
def dkwX6_read_3 : List UInt8 := [180, 0, 7, 3, 184, 0, 79, 28, 4, 160, 0, 11, 42, 4, 182, 0, 75, 167, 0, 8, 42, 5]
abbrev dktX6_read_3 : List UInt8 := dkwX6_read_3 ++ dktX6_read_4
def dkwX6_read_2 : List UInt8 := [162, 0, 54, 42, 27, 182, 0, 239, 61, 28, 154, 0, 6, 167, 0, 35, 42, 180, 0, 13, 3, 42]
abbrev dktX6_read_2 : List UInt8 := dkwX6_read_2 ++ dktX6_read_3
def dkwX6_read_1 : List UInt8 := [181, 0, 69, 42, 180, 0, 72, 153, 0, 9, 42, 4, 182, 0, 75, 172, 3, 60, 27, 42, 180, 0, 66]
abbrev dktX6_read_1 : List UInt8 := dkwX6_read_1 ++ dktX6_read_2
def dkwX6_read_0 : List UInt8 := [42, 182, 0, 87, 42, 182, 0, 236, 42, 42, 180, 0, 72, 153, 0, 10, 42, 180, 0, 63, 167, 0, 4, 2]
abbrev dktX6_read_0 : List UInt8 := dkwX6_read_0 ++ dktX6_read_1
theorem dksX6_read_0 : cX6_read.data.toList.drop 0 = dktX6_read_0 := by decide +kernel
theorem dksX6_read_1 : cX6_read.data.toList.drop 24 = dktX6_read_1 := dk_seg dksX6_read_0 24 rfl rfl
theorem dksX6_read_2 : cX6_read.data.toList.drop 47 = dktX6_read_2 := dk_seg dksX6_read_1 23 rfl rfl
theorem dksX6_read_3 : cX6_read.data.toList.drop 69 = dktX6_read_3 := dk_seg dksX6_read_2 22 rfl rfl
theorem dksX6_read_4 : cX6_read.data.toList.drop 91 = dktX6_read_4 := dk_seg dksX6_read_3 22 rfl rfl
theorem dX6_read_0 : decode cX6_read 0 = .ok (.aload_n 0, 1) := dk_42 (dk_at dksX6_read_0 0 rfl rfl)
theorem dX6_read_1 : decode cX6_read 1 = .ok (.invokevirtual 87, 3) := dk_182 0 87 (dk_at dksX6_read_0 1 rfl rfl)
theorem dX6_read_4 : decode cX6_read 4 = .ok (.aload_n 0, 1) := dk_42 (dk_at dksX6_read_0 4 rfl rfl)
theorem dX6_read_5 : decode cX6_read 5 = .ok (.invokevirtual 236, 3) := dk_182 0 236 (dk_at dksX6_read_0 5 rfl rfl)
theorem dX6_read_8 : decode cX6_read 8 = .ok (.aload_n 0, 1) := dk_42 (dk_at dksX6_read_0 8 rfl rfl)
theorem dX6_read_9 : decode cX6_read 9 = .ok (.aload_n 0, 1) := dk_42 (dk_at dksX6_read_0 9 rfl rfl)
theorem dX6_read_10 : decode cX6_read 10 = .ok (.getfield 72, 3) := dk_180 0 72 (dk_at dksX6_read_0 10 rfl rfl)
theorem dX6_read_13 : decode cX6_read 13 = .ok (.ifCond .eq 10, 3) := dk_153 0 10 (dk_at dksX6_read_0 13 rfl rfl)
theorem dX6_read_16 : decode cX6_read 16 = .ok (.aload_n 0, 1) := dk_42 (dk_at dksX6_read_0 16 rfl rfl)
theorem dX6_read_17 : decode cX6_read 17 = .ok (.getfield 63, 3) := dk_180 0 63 (dk_at dksX6_read_0 17 rfl rfl)
theorem dX6_read_20 : decode cX6_read 20 = .ok (.goto 4, 3) := dk_167 0 4 (dk_at dksX6_read_0 20 rfl rfl)
theorem dX6_read_23 : decode cX6_read 23 = .ok (.iconst (-1), 1) := dk_2 (dk_at dksX6_read_0 23 rfl rfl)
theorem dX6_read_24 : decode cX6_read 24 = .ok (.putfield 69, 3) := dk_181 0 69 (dk_at dksX6_read_1 0 rfl rfl)
theorem dX6_read_27 : decode cX6_read 27 = .ok (.aload_n 0, 1) := dk_42 (dk_at dksX6_read_1 3 rfl rfl)
theorem dX6_read_28 : decode cX6_read 28 = .ok (.getfield 72, 3) := dk_180 0 72 (dk_at dksX6_read_1 4 rfl rfl)
theorem dX6_read_31 : decode cX6_read 31 = .ok (.ifCond .eq 9, 3) := dk_153 0 9 (dk_at dksX6_read_1 7 rfl rfl)
theorem dX6_read_34 : decode cX6_read 34 = .ok (.aload_n 0, 1) := dk_42 (dk_at dksX6_read_1 10 rfl rfl)
theorem dX6_read_35 : decode cX6_read 35 = .ok (.iconst 1, 1) := dk_4 (dk_at dksX6_read_1 11 rfl rfl)
theorem dX6_read_36 : decode cX6_read 36 = .ok (.invokevirtual 75, 3) := dk_182 0 75 (dk_at dksX6_read_1 12 rfl rfl)
theorem dX6_read_39 : decode cX6_read 39 = .ok (.ireturn, 1) := dk_172 (dk_at dksX6_read_1 15 rfl rfl)
theorem dX6_read_40 : decode cX6_read 40 = .ok (.iconst 0, 1) := dk_3 (dk_at dksX6_read_1 16 rfl rfl)
theorem dX6_read_41 : decode cX6_read 41 = .ok (.istore_n 1, 1) := dk_60 (dk_at dksX6_read_1 17 rfl rfl)
theorem dX6_read_42 : decode cX6_read 42 = .ok (.iload_n 1, 1) := dk_27 (dk_at dksX6_read_1 18 rfl rfl)
theorem dX6_read_43 : decode cX6_read 43 = .ok (.aload_n 0, 1) := dk_42 (dk_at dksX6_read_1 19 rfl rfl)
theorem dX6_read_44 : decode cX6_read 44 = .ok (.getfield 66, 3) := dk_180 0 66 (dk_at dksX6_read_1 20 rfl rfl)
theorem dX6_read_47 : decode cX6_read 47 = .ok (.if_icmp .ge 54, 3) := dk_162 0 54 (dk_at dksX6_read_2 0 rfl rfl)
theorem dX6_read_50 : decode cX6_read 50 = .ok (.aload_n 0, 1) := dk_42 (dk_at dksX6_read_2 3 rfl rfl)
theorem dX6_read_51 : decode cX6_read 51 = .ok (.iload_n 1, 1) := dk_27 (dk_at dksX6_read_2 4 rfl rfl)
theorem dX6_read_52 : decode cX6_read 52 = .ok (.invokevirtual 239, 3) := dk_182 0 239 (dk_at dksX6_read_2 5 rfl rfl)
theorem dX6_read_55 : decode cX6_read 55 = .ok (.istore_n 2, 1) := dk_61 (dk_at dksX6_read_2 8 rfl rfl)
theorem dX6_read_56 : decode cX6_read 56 = .ok (.iload_n 2, 1) := dk_28 (dk_at dksX6_read_2 9 rfl rfl)
theorem dX6_read_57 : decode cX6_read 57 = .ok (.ifCond .ne 6, 3) := dk_154 0 6 (dk_at dksX6_read_2 10 rfl rfl)
theorem dX6_read_60 : decode cX6_read 60 = .ok (.goto 35, 3) := dk_167 0 35 (dk_at dksX6_read_2 13 rfl rfl)
theorem dX6_read_63 : decode cX6_read 63 = .ok (.aload_n 0, 1) := dk_42 (dk_at dksX6_read_2 16 rfl rfl)
theorem dX6_read_64 : decode cX6_read 64 = .ok (.getfield 13, 3) := dk_180 0 13 (dk_at dksX6_read_2 17 rfl rfl)
theorem dX6_read_67 : decode cX6_read 67 = .ok (.iconst 0, 1) := dk_3 (dk_at dksX6_read_2 20 rfl rfl)
theorem dX6_read_68 : decode cX6_read 68 = .ok (.aload_n 0, 1) := dk_42 (dk_at dksX6_read_2 21 rfl rfl)
theorem dX6_read_69 : decode cX6_read 69 = .ok (.getfield 7, 3) := dk_180 0 7 (dk_at dksX6_read_3 0 rfl rfl)
theorem dX6_read_72 : decode cX6_read 72 = .ok (.iconst 0, 1) := dk_3 (dk_at dksX6_read_3 3 rfl rfl)
theorem dX6_read_73 : decode cX6_read 73 = .ok (.invokestatic 79, 3) := dk_184 0 79 (dk_at dksX6_read_3 4 rfl rfl)
theorem dX6_read_76 : decode cX6_read 76 = .ok (.iload_n 2, 1) := dk_28 (dk_at dksX6_read_3 7 rfl rfl)
theorem dX6_read_77 : decode cX6_read 77 = .ok (.iconst 1, 1) := dk_4 (dk_at dksX6_read_3 8 rfl rfl)
theorem dX6_read_78 : decode cX6_read 78 = .ok (.if_icmp .ne 11, 3) := dk_160 0 11 (dk_at dksX6_read_3 9 rfl rfl)
theorem dX6_read_81 : decode cX6_read 81 = .ok (.aload_n 0, 1) := dk_42 (dk_at dksX6_read_3 12 rfl rfl)
theorem dX6_read_82 : decode cX6_read 82 = .ok (.iconst 1, 1) := dk_4 (dk_at dksX6_read_3 13 rfl rfl)
theorem dX6_read_83 : decode cX6_read 83 = .ok (.invokevirtual 75, 3) := dk_182 0 75 (dk_at dksX6_read_3 14 rfl rfl)
theorem dX6_read_86 : decode cX6_read 86 = .ok (.goto 8, 3) := dk_167 0 8 (dk_at dksX6_read_3 17 rfl rfl)
theorem dX6_read_89 : decode cX6_read 89 = .ok (.aload_n 0, 1) := dk_42 (dk_at dksX6_read_3 20 rfl rfl)
theorem dX6_read_90 : decode cX6_read 90 = .ok (.iconst 2, 1) := dk_5 (dk_at dksX6_read_3 21 rfl rfl)
theorem dX6_read_91 : decode cX6_read 91 = .ok (.invokevirtual 117, 3) := dk_182 0 117 (dk_at dksX6_read_4 0 rfl rfl)
theorem dX6_read_94 : decode cX6_read 94 = .ok (.ireturn, 1) := dk_172 (dk_at dksX6_read_4 3 rfl rfl)
theorem dX6_read_95 : decode cX6_read 95 = .ok (.iinc 1 1, 3) := dk_132 1 1 (dk_at dksX6_read_4 4 rfl rfl)
theorem dX6_read_98 : decode cX6_read 98 = .ok (.goto (-56), 3) := dk_167 255 200 (dk_at dksX6_read_4 7 rfl rfl)
theorem dX6_read_101 : decode cX6_read 101 = .ok (.aload_n 0, 1) := dk_42 (dk_at dksX6_read_4 10 rfl rfl)
theorem dX6_read_102 : decode cX6_read 102 = .ok (.aload_n 0, 1) := dk_42 (dk_at dksX6_read_4 11 rfl rfl)
theorem dX6_read_103 : decode cX6_read 103 = .ok (.getfield 66, 3) := dk_180 0 66 (dk_at dksX6_read_4 12 rfl rfl)
theorem dX6_read_106 : decode cX6_read 106 = .ok (.invokevirtual 101, 3) := dk_182 0 101 (dk_at dksX6_read_4 15 rfl rfl)
theorem dX6_read_109 : decode cX6_read 109 = .ok (.ireturn, 1) := dk_172 (dk_at dksX6_read_4 18 rfl rfl)
abbrev kX6_read : KX := (cX6_read, "TissueBalloonsModel", "read", 3, some .int, [], 8)
abbrev cX6_reads : ByteArray := prog_14_method_77_code
def yX6_reads : MethodName := ⟨RX6, "reads", "()V"⟩
def dkwX6_reads_3 : List UInt8 := [3, 181, 0, 60, 177]
abbrev dktX6_reads_3 : List UInt8 := dkwX6_reads_3 ++ []
def dkwX6_reads_2 : List UInt8 := [180, 0, 72, 42, 180, 0, 63, 42, 180, 0, 60, 162, 0, 7, 4, 167, 0, 4, 3, 128, 181, 0, 72, 42]
abbrev dktX6_reads_2 : List UInt8 := dkwX6_reads_2 ++ dktX6_reads_3
def dkwX6_reads_1 : List UInt8 := [16, 59, 160, 0, 20, 42, 89, 180, 0, 63, 4, 96, 181, 0, 63, 42, 182, 0, 233, 167, 255, 233, 42, 89]
abbrev dktX6_reads_1 : List UInt8 := dkwX6_reads_1 ++ dktX6_reads_2
def dkwX6_reads_0 : List UInt8 := [42, 3, 181, 0, 63, 42, 3, 181, 0, 66, 42, 3, 181, 0, 72, 42, 182, 0, 233, 42, 182, 0, 219]
abbrev dktX6_reads_0 : List UInt8 := dkwX6_reads_0 ++ dktX6_reads_1
theorem dksX6_reads_0 : cX6_reads.data.toList.drop 0 = dktX6_reads_0 := by decide +kernel
theorem dksX6_reads_1 : cX6_reads.data.toList.drop 23 = dktX6_reads_1 := dk_seg dksX6_reads_0 23 rfl rfl
theorem dksX6_reads_2 : cX6_reads.data.toList.drop 47 = dktX6_reads_2 := dk_seg dksX6_reads_1 24 rfl rfl
theorem dksX6_reads_3 : cX6_reads.data.toList.drop 71 = dktX6_reads_3 := dk_seg dksX6_reads_2 24 rfl rfl
theorem dX6_reads_0 : decode cX6_reads 0 = .ok (.aload_n 0, 1) := dk_42 (dk_at dksX6_reads_0 0 rfl rfl)
theorem dX6_reads_1 : decode cX6_reads 1 = .ok (.iconst 0, 1) := dk_3 (dk_at dksX6_reads_0 1 rfl rfl)
theorem dX6_reads_2 : decode cX6_reads 2 = .ok (.putfield 63, 3) := dk_181 0 63 (dk_at dksX6_reads_0 2 rfl rfl)
theorem dX6_reads_5 : decode cX6_reads 5 = .ok (.aload_n 0, 1) := dk_42 (dk_at dksX6_reads_0 5 rfl rfl)
theorem dX6_reads_6 : decode cX6_reads 6 = .ok (.iconst 0, 1) := dk_3 (dk_at dksX6_reads_0 6 rfl rfl)
theorem dX6_reads_7 : decode cX6_reads 7 = .ok (.putfield 66, 3) := dk_181 0 66 (dk_at dksX6_reads_0 7 rfl rfl)
theorem dX6_reads_10 : decode cX6_reads 10 = .ok (.aload_n 0, 1) := dk_42 (dk_at dksX6_reads_0 10 rfl rfl)
theorem dX6_reads_11 : decode cX6_reads 11 = .ok (.iconst 0, 1) := dk_3 (dk_at dksX6_reads_0 11 rfl rfl)
theorem dX6_reads_12 : decode cX6_reads 12 = .ok (.putfield 72, 3) := dk_181 0 72 (dk_at dksX6_reads_0 12 rfl rfl)
theorem dX6_reads_15 : decode cX6_reads 15 = .ok (.aload_n 0, 1) := dk_42 (dk_at dksX6_reads_0 15 rfl rfl)
theorem dX6_reads_16 : decode cX6_reads 16 = .ok (.invokevirtual 233, 3) := dk_182 0 233 (dk_at dksX6_reads_0 16 rfl rfl)
theorem dX6_reads_19 : decode cX6_reads 19 = .ok (.aload_n 0, 1) := dk_42 (dk_at dksX6_reads_0 19 rfl rfl)
theorem dX6_reads_20 : decode cX6_reads 20 = .ok (.invokevirtual 219, 3) := dk_182 0 219 (dk_at dksX6_reads_0 20 rfl rfl)
theorem dX6_reads_23 : decode cX6_reads 23 = .ok (.bipush 59, 2) := dk_16 59 (dk_at dksX6_reads_1 0 rfl rfl)
theorem dX6_reads_25 : decode cX6_reads 25 = .ok (.if_icmp .ne 20, 3) := dk_160 0 20 (dk_at dksX6_reads_1 2 rfl rfl)
theorem dX6_reads_28 : decode cX6_reads 28 = .ok (.aload_n 0, 1) := dk_42 (dk_at dksX6_reads_1 5 rfl rfl)
theorem dX6_reads_29 : decode cX6_reads 29 = .ok (.dup, 1) := dk_89 (dk_at dksX6_reads_1 6 rfl rfl)
theorem dX6_reads_30 : decode cX6_reads 30 = .ok (.getfield 63, 3) := dk_180 0 63 (dk_at dksX6_reads_1 7 rfl rfl)
theorem dX6_reads_33 : decode cX6_reads 33 = .ok (.iconst 1, 1) := dk_4 (dk_at dksX6_reads_1 10 rfl rfl)
theorem dX6_reads_34 : decode cX6_reads 34 = .ok (.iadd, 1) := dk_96 (dk_at dksX6_reads_1 11 rfl rfl)
theorem dX6_reads_35 : decode cX6_reads 35 = .ok (.putfield 63, 3) := dk_181 0 63 (dk_at dksX6_reads_1 12 rfl rfl)
theorem dX6_reads_38 : decode cX6_reads 38 = .ok (.aload_n 0, 1) := dk_42 (dk_at dksX6_reads_1 15 rfl rfl)
theorem dX6_reads_39 : decode cX6_reads 39 = .ok (.invokevirtual 233, 3) := dk_182 0 233 (dk_at dksX6_reads_1 16 rfl rfl)
theorem dX6_reads_42 : decode cX6_reads 42 = .ok (.goto (-23), 3) := dk_167 255 233 (dk_at dksX6_reads_1 19 rfl rfl)
theorem dX6_reads_45 : decode cX6_reads 45 = .ok (.aload_n 0, 1) := dk_42 (dk_at dksX6_reads_1 22 rfl rfl)
theorem dX6_reads_46 : decode cX6_reads 46 = .ok (.dup, 1) := dk_89 (dk_at dksX6_reads_1 23 rfl rfl)
theorem dX6_reads_47 : decode cX6_reads 47 = .ok (.getfield 72, 3) := dk_180 0 72 (dk_at dksX6_reads_2 0 rfl rfl)
theorem dX6_reads_50 : decode cX6_reads 50 = .ok (.aload_n 0, 1) := dk_42 (dk_at dksX6_reads_2 3 rfl rfl)
theorem dX6_reads_51 : decode cX6_reads 51 = .ok (.getfield 63, 3) := dk_180 0 63 (dk_at dksX6_reads_2 4 rfl rfl)
theorem dX6_reads_54 : decode cX6_reads 54 = .ok (.aload_n 0, 1) := dk_42 (dk_at dksX6_reads_2 7 rfl rfl)
theorem dX6_reads_55 : decode cX6_reads 55 = .ok (.getfield 60, 3) := dk_180 0 60 (dk_at dksX6_reads_2 8 rfl rfl)
theorem dX6_reads_58 : decode cX6_reads 58 = .ok (.if_icmp .ge 7, 3) := dk_162 0 7 (dk_at dksX6_reads_2 11 rfl rfl)
theorem dX6_reads_61 : decode cX6_reads 61 = .ok (.iconst 1, 1) := dk_4 (dk_at dksX6_reads_2 14 rfl rfl)
theorem dX6_reads_62 : decode cX6_reads 62 = .ok (.goto 4, 3) := dk_167 0 4 (dk_at dksX6_reads_2 15 rfl rfl)
theorem dX6_reads_65 : decode cX6_reads 65 = .ok (.iconst 0, 1) := dk_3 (dk_at dksX6_reads_2 18 rfl rfl)
theorem dX6_reads_66 : decode cX6_reads 66 = .ok (.ior, 1) := dk_128 (dk_at dksX6_reads_2 19 rfl rfl)
theorem dX6_reads_67 : decode cX6_reads 67 = .ok (.putfield 72, 3) := dk_181 0 72 (dk_at dksX6_reads_2 20 rfl rfl)
theorem dX6_reads_70 : decode cX6_reads 70 = .ok (.aload_n 0, 1) := dk_42 (dk_at dksX6_reads_2 23 rfl rfl)
theorem dX6_reads_71 : decode cX6_reads 71 = .ok (.iconst 0, 1) := dk_3 (dk_at dksX6_reads_3 0 rfl rfl)
theorem dX6_reads_72 : decode cX6_reads 72 = .ok (.putfield 60, 3) := dk_181 0 60 (dk_at dksX6_reads_3 1 rfl rfl)
theorem dX6_reads_75 : decode cX6_reads 75 = .ok (.return_, 1) := dk_177 (dk_at dksX6_reads_3 4 rfl rfl)
abbrev kX6_reads : KX := (cX6_reads, "TissueBalloonsModel", "reads", 1, none, [], 4)
abbrev cX6_order : ByteArray := prog_14_method_76_code
def yX6_order : MethodName := ⟨RX6, "order", "()V"⟩
def dkwX6_order_7 : List UInt8 := [180, 0, 51, 27, 28, 79, 42, 89, 180, 0, 66, 4, 96, 181, 0, 66, 177]
abbrev dktX6_order_7 : List UInt8 := dkwX6_order_7 ++ []
def dkwX6_order_6 : List UInt8 := [182, 0, 227, 42, 180, 0, 57, 27, 42, 182, 0, 222, 79, 42, 180, 0, 72, 153, 0, 4, 177, 42]
abbrev dktX6_order_6 : List UInt8 := dkwX6_order_6 ++ dktX6_order_7
def dkwX6_order_5 : List UInt8 := [182, 0, 227, 42, 180, 0, 57, 27, 42, 182, 0, 222, 79, 28, 16, 103, 160, 0, 19, 42, 16, 43]
abbrev dktX6_order_5 : List UInt8 := dkwX6_order_5 ++ dktX6_order_6
def dkwX6_order_4 : List UInt8 := [182, 0, 227, 42, 180, 0, 57, 27, 42, 182, 0, 230, 79, 28, 16, 108, 160, 0, 19, 42, 16, 64]
abbrev dktX6_order_4 : List UInt8 := dkwX6_order_4 ++ dktX6_order_5
def dkwX6_order_3 : List UInt8 := [167, 0, 7, 42, 182, 0, 225, 79, 42, 180, 0, 57, 27, 3, 79, 28, 16, 119, 160, 0, 19, 42, 16, 61]
abbrev dktX6_order_3 : List UInt8 := dkwX6_order_3 ++ dktX6_order_4
def dkwX6_order_2 : List UInt8 := [89, 180, 0, 63, 4, 96, 181, 0, 63, 42, 180, 0, 54, 27, 28, 16, 119, 160, 0, 10, 42, 182, 0, 222]
abbrev dktX6_order_2 : List UInt8 := dkwX6_order_2 ++ dktX6_order_3
def dkwX6_order_1 : List UInt8 := [16, 103, 159, 0, 21, 28, 16, 111, 159, 0, 15, 28, 16, 112, 159, 0, 9, 42, 4, 181, 0, 72, 177, 42]
abbrev dktX6_order_1 : List UInt8 := dkwX6_order_1 ++ dktX6_order_2
def dkwX6_order_0 : List UInt8 := [42, 180, 0, 66, 60, 42, 182, 0, 219, 61, 28, 16, 119, 159, 0, 33, 28, 16, 108, 159, 0, 27, 28]
abbrev dktX6_order_0 : List UInt8 := dkwX6_order_0 ++ dktX6_order_1
theorem dksX6_order_0 : cX6_order.data.toList.drop 0 = dktX6_order_0 := by decide +kernel
theorem dksX6_order_1 : cX6_order.data.toList.drop 23 = dktX6_order_1 := dk_seg dksX6_order_0 23 rfl rfl
theorem dksX6_order_2 : cX6_order.data.toList.drop 47 = dktX6_order_2 := dk_seg dksX6_order_1 24 rfl rfl
theorem dksX6_order_3 : cX6_order.data.toList.drop 71 = dktX6_order_3 := dk_seg dksX6_order_2 24 rfl rfl
theorem dksX6_order_4 : cX6_order.data.toList.drop 95 = dktX6_order_4 := dk_seg dksX6_order_3 24 rfl rfl
theorem dksX6_order_5 : cX6_order.data.toList.drop 117 = dktX6_order_5 := dk_seg dksX6_order_4 22 rfl rfl
theorem dksX6_order_6 : cX6_order.data.toList.drop 139 = dktX6_order_6 := dk_seg dksX6_order_5 22 rfl rfl
theorem dksX6_order_7 : cX6_order.data.toList.drop 161 = dktX6_order_7 := dk_seg dksX6_order_6 22 rfl rfl
theorem dX6_order_0 : decode cX6_order 0 = .ok (.aload_n 0, 1) := dk_42 (dk_at dksX6_order_0 0 rfl rfl)
theorem dX6_order_1 : decode cX6_order 1 = .ok (.getfield 66, 3) := dk_180 0 66 (dk_at dksX6_order_0 1 rfl rfl)
theorem dX6_order_4 : decode cX6_order 4 = .ok (.istore_n 1, 1) := dk_60 (dk_at dksX6_order_0 4 rfl rfl)
theorem dX6_order_5 : decode cX6_order 5 = .ok (.aload_n 0, 1) := dk_42 (dk_at dksX6_order_0 5 rfl rfl)
theorem dX6_order_6 : decode cX6_order 6 = .ok (.invokevirtual 219, 3) := dk_182 0 219 (dk_at dksX6_order_0 6 rfl rfl)
theorem dX6_order_9 : decode cX6_order 9 = .ok (.istore_n 2, 1) := dk_61 (dk_at dksX6_order_0 9 rfl rfl)
theorem dX6_order_10 : decode cX6_order 10 = .ok (.iload_n 2, 1) := dk_28 (dk_at dksX6_order_0 10 rfl rfl)
theorem dX6_order_11 : decode cX6_order 11 = .ok (.bipush 119, 2) := dk_16 119 (dk_at dksX6_order_0 11 rfl rfl)
theorem dX6_order_13 : decode cX6_order 13 = .ok (.if_icmp .eq 33, 3) := dk_159 0 33 (dk_at dksX6_order_0 13 rfl rfl)
theorem dX6_order_16 : decode cX6_order 16 = .ok (.iload_n 2, 1) := dk_28 (dk_at dksX6_order_0 16 rfl rfl)
theorem dX6_order_17 : decode cX6_order 17 = .ok (.bipush 108, 2) := dk_16 108 (dk_at dksX6_order_0 17 rfl rfl)
theorem dX6_order_19 : decode cX6_order 19 = .ok (.if_icmp .eq 27, 3) := dk_159 0 27 (dk_at dksX6_order_0 19 rfl rfl)
theorem dX6_order_22 : decode cX6_order 22 = .ok (.iload_n 2, 1) := dk_28 (dk_at dksX6_order_0 22 rfl rfl)
theorem dX6_order_23 : decode cX6_order 23 = .ok (.bipush 103, 2) := dk_16 103 (dk_at dksX6_order_1 0 rfl rfl)
theorem dX6_order_25 : decode cX6_order 25 = .ok (.if_icmp .eq 21, 3) := dk_159 0 21 (dk_at dksX6_order_1 2 rfl rfl)
theorem dX6_order_28 : decode cX6_order 28 = .ok (.iload_n 2, 1) := dk_28 (dk_at dksX6_order_1 5 rfl rfl)
theorem dX6_order_29 : decode cX6_order 29 = .ok (.bipush 111, 2) := dk_16 111 (dk_at dksX6_order_1 6 rfl rfl)
theorem dX6_order_31 : decode cX6_order 31 = .ok (.if_icmp .eq 15, 3) := dk_159 0 15 (dk_at dksX6_order_1 8 rfl rfl)
theorem dX6_order_34 : decode cX6_order 34 = .ok (.iload_n 2, 1) := dk_28 (dk_at dksX6_order_1 11 rfl rfl)
theorem dX6_order_35 : decode cX6_order 35 = .ok (.bipush 112, 2) := dk_16 112 (dk_at dksX6_order_1 12 rfl rfl)
theorem dX6_order_37 : decode cX6_order 37 = .ok (.if_icmp .eq 9, 3) := dk_159 0 9 (dk_at dksX6_order_1 14 rfl rfl)
theorem dX6_order_40 : decode cX6_order 40 = .ok (.aload_n 0, 1) := dk_42 (dk_at dksX6_order_1 17 rfl rfl)
theorem dX6_order_41 : decode cX6_order 41 = .ok (.iconst 1, 1) := dk_4 (dk_at dksX6_order_1 18 rfl rfl)
theorem dX6_order_42 : decode cX6_order 42 = .ok (.putfield 72, 3) := dk_181 0 72 (dk_at dksX6_order_1 19 rfl rfl)
theorem dX6_order_45 : decode cX6_order 45 = .ok (.return_, 1) := dk_177 (dk_at dksX6_order_1 22 rfl rfl)
theorem dX6_order_46 : decode cX6_order 46 = .ok (.aload_n 0, 1) := dk_42 (dk_at dksX6_order_1 23 rfl rfl)
theorem dX6_order_47 : decode cX6_order 47 = .ok (.dup, 1) := dk_89 (dk_at dksX6_order_2 0 rfl rfl)
theorem dX6_order_48 : decode cX6_order 48 = .ok (.getfield 63, 3) := dk_180 0 63 (dk_at dksX6_order_2 1 rfl rfl)
theorem dX6_order_51 : decode cX6_order 51 = .ok (.iconst 1, 1) := dk_4 (dk_at dksX6_order_2 4 rfl rfl)
theorem dX6_order_52 : decode cX6_order 52 = .ok (.iadd, 1) := dk_96 (dk_at dksX6_order_2 5 rfl rfl)
theorem dX6_order_53 : decode cX6_order 53 = .ok (.putfield 63, 3) := dk_181 0 63 (dk_at dksX6_order_2 6 rfl rfl)
theorem dX6_order_56 : decode cX6_order 56 = .ok (.aload_n 0, 1) := dk_42 (dk_at dksX6_order_2 9 rfl rfl)
theorem dX6_order_57 : decode cX6_order 57 = .ok (.getfield 54, 3) := dk_180 0 54 (dk_at dksX6_order_2 10 rfl rfl)
theorem dX6_order_60 : decode cX6_order 60 = .ok (.iload_n 1, 1) := dk_27 (dk_at dksX6_order_2 13 rfl rfl)
theorem dX6_order_61 : decode cX6_order 61 = .ok (.iload_n 2, 1) := dk_28 (dk_at dksX6_order_2 14 rfl rfl)
theorem dX6_order_62 : decode cX6_order 62 = .ok (.bipush 119, 2) := dk_16 119 (dk_at dksX6_order_2 15 rfl rfl)
theorem dX6_order_64 : decode cX6_order 64 = .ok (.if_icmp .ne 10, 3) := dk_160 0 10 (dk_at dksX6_order_2 17 rfl rfl)
theorem dX6_order_67 : decode cX6_order 67 = .ok (.aload_n 0, 1) := dk_42 (dk_at dksX6_order_2 20 rfl rfl)
theorem dX6_order_68 : decode cX6_order 68 = .ok (.invokevirtual 222, 3) := dk_182 0 222 (dk_at dksX6_order_2 21 rfl rfl)
theorem dX6_order_71 : decode cX6_order 71 = .ok (.goto 7, 3) := dk_167 0 7 (dk_at dksX6_order_3 0 rfl rfl)
theorem dX6_order_74 : decode cX6_order 74 = .ok (.aload_n 0, 1) := dk_42 (dk_at dksX6_order_3 3 rfl rfl)
theorem dX6_order_75 : decode cX6_order 75 = .ok (.invokevirtual 225, 3) := dk_182 0 225 (dk_at dksX6_order_3 4 rfl rfl)
theorem dX6_order_78 : decode cX6_order 78 = .ok (.iastore, 1) := dk_79 (dk_at dksX6_order_3 7 rfl rfl)
theorem dX6_order_79 : decode cX6_order 79 = .ok (.aload_n 0, 1) := dk_42 (dk_at dksX6_order_3 8 rfl rfl)
theorem dX6_order_80 : decode cX6_order 80 = .ok (.getfield 57, 3) := dk_180 0 57 (dk_at dksX6_order_3 9 rfl rfl)
theorem dX6_order_83 : decode cX6_order 83 = .ok (.iload_n 1, 1) := dk_27 (dk_at dksX6_order_3 12 rfl rfl)
theorem dX6_order_84 : decode cX6_order 84 = .ok (.iconst 0, 1) := dk_3 (dk_at dksX6_order_3 13 rfl rfl)
theorem dX6_order_85 : decode cX6_order 85 = .ok (.iastore, 1) := dk_79 (dk_at dksX6_order_3 14 rfl rfl)
theorem dX6_order_86 : decode cX6_order 86 = .ok (.iload_n 2, 1) := dk_28 (dk_at dksX6_order_3 15 rfl rfl)
theorem dX6_order_87 : decode cX6_order 87 = .ok (.bipush 119, 2) := dk_16 119 (dk_at dksX6_order_3 16 rfl rfl)
theorem dX6_order_89 : decode cX6_order 89 = .ok (.if_icmp .ne 19, 3) := dk_160 0 19 (dk_at dksX6_order_3 18 rfl rfl)
theorem dX6_order_92 : decode cX6_order 92 = .ok (.aload_n 0, 1) := dk_42 (dk_at dksX6_order_3 21 rfl rfl)
theorem dX6_order_93 : decode cX6_order 93 = .ok (.bipush 61, 2) := dk_16 61 (dk_at dksX6_order_3 22 rfl rfl)
theorem dX6_order_95 : decode cX6_order 95 = .ok (.invokevirtual 227, 3) := dk_182 0 227 (dk_at dksX6_order_4 0 rfl rfl)
theorem dX6_order_98 : decode cX6_order 98 = .ok (.aload_n 0, 1) := dk_42 (dk_at dksX6_order_4 3 rfl rfl)
theorem dX6_order_99 : decode cX6_order 99 = .ok (.getfield 57, 3) := dk_180 0 57 (dk_at dksX6_order_4 4 rfl rfl)
theorem dX6_order_102 : decode cX6_order 102 = .ok (.iload_n 1, 1) := dk_27 (dk_at dksX6_order_4 7 rfl rfl)
theorem dX6_order_103 : decode cX6_order 103 = .ok (.aload_n 0, 1) := dk_42 (dk_at dksX6_order_4 8 rfl rfl)
theorem dX6_order_104 : decode cX6_order 104 = .ok (.invokevirtual 230, 3) := dk_182 0 230 (dk_at dksX6_order_4 9 rfl rfl)
theorem dX6_order_107 : decode cX6_order 107 = .ok (.iastore, 1) := dk_79 (dk_at dksX6_order_4 12 rfl rfl)
theorem dX6_order_108 : decode cX6_order 108 = .ok (.iload_n 2, 1) := dk_28 (dk_at dksX6_order_4 13 rfl rfl)
theorem dX6_order_109 : decode cX6_order 109 = .ok (.bipush 108, 2) := dk_16 108 (dk_at dksX6_order_4 14 rfl rfl)
theorem dX6_order_111 : decode cX6_order 111 = .ok (.if_icmp .ne 19, 3) := dk_160 0 19 (dk_at dksX6_order_4 16 rfl rfl)
theorem dX6_order_114 : decode cX6_order 114 = .ok (.aload_n 0, 1) := dk_42 (dk_at dksX6_order_4 19 rfl rfl)
theorem dX6_order_115 : decode cX6_order 115 = .ok (.bipush 64, 2) := dk_16 64 (dk_at dksX6_order_4 20 rfl rfl)
theorem dX6_order_117 : decode cX6_order 117 = .ok (.invokevirtual 227, 3) := dk_182 0 227 (dk_at dksX6_order_5 0 rfl rfl)
theorem dX6_order_120 : decode cX6_order 120 = .ok (.aload_n 0, 1) := dk_42 (dk_at dksX6_order_5 3 rfl rfl)
theorem dX6_order_121 : decode cX6_order 121 = .ok (.getfield 57, 3) := dk_180 0 57 (dk_at dksX6_order_5 4 rfl rfl)
theorem dX6_order_124 : decode cX6_order 124 = .ok (.iload_n 1, 1) := dk_27 (dk_at dksX6_order_5 7 rfl rfl)
theorem dX6_order_125 : decode cX6_order 125 = .ok (.aload_n 0, 1) := dk_42 (dk_at dksX6_order_5 8 rfl rfl)
theorem dX6_order_126 : decode cX6_order 126 = .ok (.invokevirtual 222, 3) := dk_182 0 222 (dk_at dksX6_order_5 9 rfl rfl)
theorem dX6_order_129 : decode cX6_order 129 = .ok (.iastore, 1) := dk_79 (dk_at dksX6_order_5 12 rfl rfl)
theorem dX6_order_130 : decode cX6_order 130 = .ok (.iload_n 2, 1) := dk_28 (dk_at dksX6_order_5 13 rfl rfl)
theorem dX6_order_131 : decode cX6_order 131 = .ok (.bipush 103, 2) := dk_16 103 (dk_at dksX6_order_5 14 rfl rfl)
theorem dX6_order_133 : decode cX6_order 133 = .ok (.if_icmp .ne 19, 3) := dk_160 0 19 (dk_at dksX6_order_5 16 rfl rfl)
theorem dX6_order_136 : decode cX6_order 136 = .ok (.aload_n 0, 1) := dk_42 (dk_at dksX6_order_5 19 rfl rfl)
theorem dX6_order_137 : decode cX6_order 137 = .ok (.bipush 43, 2) := dk_16 43 (dk_at dksX6_order_5 20 rfl rfl)
theorem dX6_order_139 : decode cX6_order 139 = .ok (.invokevirtual 227, 3) := dk_182 0 227 (dk_at dksX6_order_6 0 rfl rfl)
theorem dX6_order_142 : decode cX6_order 142 = .ok (.aload_n 0, 1) := dk_42 (dk_at dksX6_order_6 3 rfl rfl)
theorem dX6_order_143 : decode cX6_order 143 = .ok (.getfield 57, 3) := dk_180 0 57 (dk_at dksX6_order_6 4 rfl rfl)
theorem dX6_order_146 : decode cX6_order 146 = .ok (.iload_n 1, 1) := dk_27 (dk_at dksX6_order_6 7 rfl rfl)
theorem dX6_order_147 : decode cX6_order 147 = .ok (.aload_n 0, 1) := dk_42 (dk_at dksX6_order_6 8 rfl rfl)
theorem dX6_order_148 : decode cX6_order 148 = .ok (.invokevirtual 222, 3) := dk_182 0 222 (dk_at dksX6_order_6 9 rfl rfl)
theorem dX6_order_151 : decode cX6_order 151 = .ok (.iastore, 1) := dk_79 (dk_at dksX6_order_6 12 rfl rfl)
theorem dX6_order_152 : decode cX6_order 152 = .ok (.aload_n 0, 1) := dk_42 (dk_at dksX6_order_6 13 rfl rfl)
theorem dX6_order_153 : decode cX6_order 153 = .ok (.getfield 72, 3) := dk_180 0 72 (dk_at dksX6_order_6 14 rfl rfl)
theorem dX6_order_156 : decode cX6_order 156 = .ok (.ifCond .eq 4, 3) := dk_153 0 4 (dk_at dksX6_order_6 17 rfl rfl)
theorem dX6_order_159 : decode cX6_order 159 = .ok (.return_, 1) := dk_177 (dk_at dksX6_order_6 20 rfl rfl)
theorem dX6_order_160 : decode cX6_order 160 = .ok (.aload_n 0, 1) := dk_42 (dk_at dksX6_order_6 21 rfl rfl)
theorem dX6_order_161 : decode cX6_order 161 = .ok (.getfield 51, 3) := dk_180 0 51 (dk_at dksX6_order_7 0 rfl rfl)
theorem dX6_order_164 : decode cX6_order 164 = .ok (.iload_n 1, 1) := dk_27 (dk_at dksX6_order_7 3 rfl rfl)
theorem dX6_order_165 : decode cX6_order 165 = .ok (.iload_n 2, 1) := dk_28 (dk_at dksX6_order_7 4 rfl rfl)
theorem dX6_order_166 : decode cX6_order 166 = .ok (.iastore, 1) := dk_79 (dk_at dksX6_order_7 5 rfl rfl)
theorem dX6_order_167 : decode cX6_order 167 = .ok (.aload_n 0, 1) := dk_42 (dk_at dksX6_order_7 6 rfl rfl)
theorem dX6_order_168 : decode cX6_order 168 = .ok (.dup, 1) := dk_89 (dk_at dksX6_order_7 7 rfl rfl)
theorem dX6_order_169 : decode cX6_order 169 = .ok (.getfield 66, 3) := dk_180 0 66 (dk_at dksX6_order_7 8 rfl rfl)
theorem dX6_order_172 : decode cX6_order 172 = .ok (.iconst 1, 1) := dk_4 (dk_at dksX6_order_7 11 rfl rfl)
theorem dX6_order_173 : decode cX6_order 173 = .ok (.iadd, 1) := dk_96 (dk_at dksX6_order_7 12 rfl rfl)
theorem dX6_order_174 : decode cX6_order 174 = .ok (.putfield 66, 3) := dk_181 0 66 (dk_at dksX6_order_7 13 rfl rfl)
theorem dX6_order_177 : decode cX6_order 177 = .ok (.return_, 1) := dk_177 (dk_at dksX6_order_7 16 rfl rfl)
abbrev kX6_order : KX := (cX6_order, "TissueBalloonsModel", "order", 3, none, [], 3)
abbrev cX6_next : ByteArray := prog_14_method_71_code
def yX6_next : MethodName := ⟨RX6, "next", "()I"⟩
def dkwX6_next_1 : List UInt8 := [180, 0, 63, 46, 167, 0, 4, 2, 172]
abbrev dktX6_next_1 : List UInt8 := dkwX6_next_1 ++ []
def dkwX6_next_0 : List UInt8 := [42, 180, 0, 72, 154, 0, 26, 42, 180, 0, 63, 42, 180, 0, 60, 162, 0, 15, 42, 180, 0, 48, 42]
abbrev dktX6_next_0 : List UInt8 := dkwX6_next_0 ++ dktX6_next_1
theorem dksX6_next_0 : cX6_next.data.toList.drop 0 = dktX6_next_0 := by decide +kernel
theorem dksX6_next_1 : cX6_next.data.toList.drop 23 = dktX6_next_1 := dk_seg dksX6_next_0 23 rfl rfl
theorem dX6_next_0 : decode cX6_next 0 = .ok (.aload_n 0, 1) := dk_42 (dk_at dksX6_next_0 0 rfl rfl)
theorem dX6_next_1 : decode cX6_next 1 = .ok (.getfield 72, 3) := dk_180 0 72 (dk_at dksX6_next_0 1 rfl rfl)
theorem dX6_next_4 : decode cX6_next 4 = .ok (.ifCond .ne 26, 3) := dk_154 0 26 (dk_at dksX6_next_0 4 rfl rfl)
theorem dX6_next_7 : decode cX6_next 7 = .ok (.aload_n 0, 1) := dk_42 (dk_at dksX6_next_0 7 rfl rfl)
theorem dX6_next_8 : decode cX6_next 8 = .ok (.getfield 63, 3) := dk_180 0 63 (dk_at dksX6_next_0 8 rfl rfl)
theorem dX6_next_11 : decode cX6_next 11 = .ok (.aload_n 0, 1) := dk_42 (dk_at dksX6_next_0 11 rfl rfl)
theorem dX6_next_12 : decode cX6_next 12 = .ok (.getfield 60, 3) := dk_180 0 60 (dk_at dksX6_next_0 12 rfl rfl)
theorem dX6_next_15 : decode cX6_next 15 = .ok (.if_icmp .ge 15, 3) := dk_162 0 15 (dk_at dksX6_next_0 15 rfl rfl)
theorem dX6_next_18 : decode cX6_next 18 = .ok (.aload_n 0, 1) := dk_42 (dk_at dksX6_next_0 18 rfl rfl)
theorem dX6_next_19 : decode cX6_next 19 = .ok (.getfield 48, 3) := dk_180 0 48 (dk_at dksX6_next_0 19 rfl rfl)
theorem dX6_next_22 : decode cX6_next 22 = .ok (.aload_n 0, 1) := dk_42 (dk_at dksX6_next_0 22 rfl rfl)
theorem dX6_next_23 : decode cX6_next 23 = .ok (.getfield 63, 3) := dk_180 0 63 (dk_at dksX6_next_1 0 rfl rfl)
theorem dX6_next_26 : decode cX6_next 26 = .ok (.iaload, 1) := dk_46 (dk_at dksX6_next_1 3 rfl rfl)
theorem dX6_next_27 : decode cX6_next 27 = .ok (.goto 4, 3) := dk_167 0 4 (dk_at dksX6_next_1 4 rfl rfl)
theorem dX6_next_30 : decode cX6_next 30 = .ok (.iconst (-1), 1) := dk_2 (dk_at dksX6_next_1 7 rfl rfl)
theorem dX6_next_31 : decode cX6_next 31 = .ok (.ireturn, 1) := dk_172 (dk_at dksX6_next_1 8 rfl rfl)
abbrev kX6_next : KX := (cX6_next, "TissueBalloonsModel", "next", 1, some .int, [], 0)
abbrev cX6_digit : ByteArray := prog_14_method_72_code
def yX6_digit : MethodName := ⟨RX6, "digit", "()I"⟩
def dkwX6_digit_1 : List UInt8 := [89, 180, 0, 63, 4, 96, 181, 0, 63, 27, 16, 48, 100, 172]
abbrev dktX6_digit_1 : List UInt8 := dkwX6_digit_1 ++ []
def dkwX6_digit_0 : List UInt8 := [42, 182, 0, 219, 60, 27, 16, 48, 16, 57, 184, 0, 83, 154, 0, 10, 42, 4, 181, 0, 72, 3, 172, 42]
abbrev dktX6_digit_0 : List UInt8 := dkwX6_digit_0 ++ dktX6_digit_1
theorem dksX6_digit_0 : cX6_digit.data.toList.drop 0 = dktX6_digit_0 := by decide +kernel
theorem dksX6_digit_1 : cX6_digit.data.toList.drop 24 = dktX6_digit_1 := dk_seg dksX6_digit_0 24 rfl rfl
theorem dX6_digit_0 : decode cX6_digit 0 = .ok (.aload_n 0, 1) := dk_42 (dk_at dksX6_digit_0 0 rfl rfl)
theorem dX6_digit_1 : decode cX6_digit 1 = .ok (.invokevirtual 219, 3) := dk_182 0 219 (dk_at dksX6_digit_0 1 rfl rfl)
theorem dX6_digit_4 : decode cX6_digit 4 = .ok (.istore_n 1, 1) := dk_60 (dk_at dksX6_digit_0 4 rfl rfl)
theorem dX6_digit_5 : decode cX6_digit 5 = .ok (.iload_n 1, 1) := dk_27 (dk_at dksX6_digit_0 5 rfl rfl)
theorem dX6_digit_6 : decode cX6_digit 6 = .ok (.bipush 48, 2) := dk_16 48 (dk_at dksX6_digit_0 6 rfl rfl)
theorem dX6_digit_8 : decode cX6_digit 8 = .ok (.bipush 57, 2) := dk_16 57 (dk_at dksX6_digit_0 8 rfl rfl)
theorem dX6_digit_10 : decode cX6_digit 10 = .ok (.invokestatic 83, 3) := dk_184 0 83 (dk_at dksX6_digit_0 10 rfl rfl)
theorem dX6_digit_13 : decode cX6_digit 13 = .ok (.ifCond .ne 10, 3) := dk_154 0 10 (dk_at dksX6_digit_0 13 rfl rfl)
theorem dX6_digit_16 : decode cX6_digit 16 = .ok (.aload_n 0, 1) := dk_42 (dk_at dksX6_digit_0 16 rfl rfl)
theorem dX6_digit_17 : decode cX6_digit 17 = .ok (.iconst 1, 1) := dk_4 (dk_at dksX6_digit_0 17 rfl rfl)
theorem dX6_digit_18 : decode cX6_digit 18 = .ok (.putfield 72, 3) := dk_181 0 72 (dk_at dksX6_digit_0 18 rfl rfl)
theorem dX6_digit_21 : decode cX6_digit 21 = .ok (.iconst 0, 1) := dk_3 (dk_at dksX6_digit_0 21 rfl rfl)
theorem dX6_digit_22 : decode cX6_digit 22 = .ok (.ireturn, 1) := dk_172 (dk_at dksX6_digit_0 22 rfl rfl)
theorem dX6_digit_23 : decode cX6_digit 23 = .ok (.aload_n 0, 1) := dk_42 (dk_at dksX6_digit_0 23 rfl rfl)
theorem dX6_digit_24 : decode cX6_digit 24 = .ok (.dup, 1) := dk_89 (dk_at dksX6_digit_1 0 rfl rfl)
theorem dX6_digit_25 : decode cX6_digit 25 = .ok (.getfield 63, 3) := dk_180 0 63 (dk_at dksX6_digit_1 1 rfl rfl)
theorem dX6_digit_28 : decode cX6_digit 28 = .ok (.iconst 1, 1) := dk_4 (dk_at dksX6_digit_1 4 rfl rfl)
theorem dX6_digit_29 : decode cX6_digit 29 = .ok (.iadd, 1) := dk_96 (dk_at dksX6_digit_1 5 rfl rfl)
theorem dX6_digit_30 : decode cX6_digit 30 = .ok (.putfield 63, 3) := dk_181 0 63 (dk_at dksX6_digit_1 6 rfl rfl)
theorem dX6_digit_33 : decode cX6_digit 33 = .ok (.iload_n 1, 1) := dk_27 (dk_at dksX6_digit_1 9 rfl rfl)
theorem dX6_digit_34 : decode cX6_digit 34 = .ok (.bipush 48, 2) := dk_16 48 (dk_at dksX6_digit_1 10 rfl rfl)
theorem dX6_digit_36 : decode cX6_digit 36 = .ok (.isub, 1) := dk_100 (dk_at dksX6_digit_1 12 rfl rfl)
theorem dX6_digit_37 : decode cX6_digit 37 = .ok (.ireturn, 1) := dk_172 (dk_at dksX6_digit_1 13 rfl rfl)
abbrev kX6_digit : KX := (cX6_digit, "TissueBalloonsModel", "digit", 2, some .int, [], 1)
abbrev cX6_number : ByteArray := prog_14_method_73_code
def yX6_number : MethodName := ⟨RX6, "number", "()I"⟩
def dkwX6_number_1 : List UInt8 := [182, 0, 222, 96, 167, 0, 4, 27, 172]
abbrev dktX6_number_1 : List UInt8 := dkwX6_number_1 ++ []
def dkwX6_number_0 : List UInt8 := [42, 182, 0, 222, 60, 42, 182, 0, 219, 16, 48, 16, 57, 184, 0, 83, 153, 0, 15, 16, 10, 27, 104, 42]
abbrev dktX6_number_0 : List UInt8 := dkwX6_number_0 ++ dktX6_number_1
theorem dksX6_number_0 : cX6_number.data.toList.drop 0 = dktX6_number_0 := by decide +kernel
theorem dksX6_number_1 : cX6_number.data.toList.drop 24 = dktX6_number_1 := dk_seg dksX6_number_0 24 rfl rfl
theorem dX6_number_0 : decode cX6_number 0 = .ok (.aload_n 0, 1) := dk_42 (dk_at dksX6_number_0 0 rfl rfl)
theorem dX6_number_1 : decode cX6_number 1 = .ok (.invokevirtual 222, 3) := dk_182 0 222 (dk_at dksX6_number_0 1 rfl rfl)
theorem dX6_number_4 : decode cX6_number 4 = .ok (.istore_n 1, 1) := dk_60 (dk_at dksX6_number_0 4 rfl rfl)
theorem dX6_number_5 : decode cX6_number 5 = .ok (.aload_n 0, 1) := dk_42 (dk_at dksX6_number_0 5 rfl rfl)
theorem dX6_number_6 : decode cX6_number 6 = .ok (.invokevirtual 219, 3) := dk_182 0 219 (dk_at dksX6_number_0 6 rfl rfl)
theorem dX6_number_9 : decode cX6_number 9 = .ok (.bipush 48, 2) := dk_16 48 (dk_at dksX6_number_0 9 rfl rfl)
theorem dX6_number_11 : decode cX6_number 11 = .ok (.bipush 57, 2) := dk_16 57 (dk_at dksX6_number_0 11 rfl rfl)
theorem dX6_number_13 : decode cX6_number 13 = .ok (.invokestatic 83, 3) := dk_184 0 83 (dk_at dksX6_number_0 13 rfl rfl)
theorem dX6_number_16 : decode cX6_number 16 = .ok (.ifCond .eq 15, 3) := dk_153 0 15 (dk_at dksX6_number_0 16 rfl rfl)
theorem dX6_number_19 : decode cX6_number 19 = .ok (.bipush 10, 2) := dk_16 10 (dk_at dksX6_number_0 19 rfl rfl)
theorem dX6_number_21 : decode cX6_number 21 = .ok (.iload_n 1, 1) := dk_27 (dk_at dksX6_number_0 21 rfl rfl)
theorem dX6_number_22 : decode cX6_number 22 = .ok (.imul, 1) := dk_104 (dk_at dksX6_number_0 22 rfl rfl)
theorem dX6_number_23 : decode cX6_number 23 = .ok (.aload_n 0, 1) := dk_42 (dk_at dksX6_number_0 23 rfl rfl)
theorem dX6_number_24 : decode cX6_number 24 = .ok (.invokevirtual 222, 3) := dk_182 0 222 (dk_at dksX6_number_1 0 rfl rfl)
theorem dX6_number_27 : decode cX6_number 27 = .ok (.iadd, 1) := dk_96 (dk_at dksX6_number_1 3 rfl rfl)
theorem dX6_number_28 : decode cX6_number 28 = .ok (.goto 4, 3) := dk_167 0 4 (dk_at dksX6_number_1 4 rfl rfl)
theorem dX6_number_31 : decode cX6_number 31 = .ok (.iload_n 1, 1) := dk_27 (dk_at dksX6_number_1 7 rfl rfl)
theorem dX6_number_32 : decode cX6_number 32 = .ok (.ireturn, 1) := dk_172 (dk_at dksX6_number_1 8 rfl rfl)
abbrev kX6_number : KX := (cX6_number, "TissueBalloonsModel", "number", 2, some .int, [], 2)
abbrev cX6_takes : ByteArray := prog_14_method_74_code
def yX6_takes : MethodName := ⟨RX6, "takes", "(I)V"⟩
def dkwX6_takes_1 : List UInt8 := [181, 0, 72, 177]
abbrev dktX6_takes_1 : List UInt8 := dkwX6_takes_1 ++ []
def dkwX6_takes_0 : List UInt8 := [42, 182, 0, 219, 27, 160, 0, 16, 42, 89, 180, 0, 63, 4, 96, 181, 0, 63, 167, 0, 8, 42, 4]
abbrev dktX6_takes_0 : List UInt8 := dkwX6_takes_0 ++ dktX6_takes_1
theorem dksX6_takes_0 : cX6_takes.data.toList.drop 0 = dktX6_takes_0 := by decide +kernel
theorem dksX6_takes_1 : cX6_takes.data.toList.drop 23 = dktX6_takes_1 := dk_seg dksX6_takes_0 23 rfl rfl
theorem dX6_takes_0 : decode cX6_takes 0 = .ok (.aload_n 0, 1) := dk_42 (dk_at dksX6_takes_0 0 rfl rfl)
theorem dX6_takes_1 : decode cX6_takes 1 = .ok (.invokevirtual 219, 3) := dk_182 0 219 (dk_at dksX6_takes_0 1 rfl rfl)
theorem dX6_takes_4 : decode cX6_takes 4 = .ok (.iload_n 1, 1) := dk_27 (dk_at dksX6_takes_0 4 rfl rfl)
theorem dX6_takes_5 : decode cX6_takes 5 = .ok (.if_icmp .ne 16, 3) := dk_160 0 16 (dk_at dksX6_takes_0 5 rfl rfl)
theorem dX6_takes_8 : decode cX6_takes 8 = .ok (.aload_n 0, 1) := dk_42 (dk_at dksX6_takes_0 8 rfl rfl)
theorem dX6_takes_9 : decode cX6_takes 9 = .ok (.dup, 1) := dk_89 (dk_at dksX6_takes_0 9 rfl rfl)
theorem dX6_takes_10 : decode cX6_takes 10 = .ok (.getfield 63, 3) := dk_180 0 63 (dk_at dksX6_takes_0 10 rfl rfl)
theorem dX6_takes_13 : decode cX6_takes 13 = .ok (.iconst 1, 1) := dk_4 (dk_at dksX6_takes_0 13 rfl rfl)
theorem dX6_takes_14 : decode cX6_takes 14 = .ok (.iadd, 1) := dk_96 (dk_at dksX6_takes_0 14 rfl rfl)
theorem dX6_takes_15 : decode cX6_takes 15 = .ok (.putfield 63, 3) := dk_181 0 63 (dk_at dksX6_takes_0 15 rfl rfl)
theorem dX6_takes_18 : decode cX6_takes 18 = .ok (.goto 8, 3) := dk_167 0 8 (dk_at dksX6_takes_0 18 rfl rfl)
theorem dX6_takes_21 : decode cX6_takes 21 = .ok (.aload_n 0, 1) := dk_42 (dk_at dksX6_takes_0 21 rfl rfl)
theorem dX6_takes_22 : decode cX6_takes 22 = .ok (.iconst 1, 1) := dk_4 (dk_at dksX6_takes_0 22 rfl rfl)
theorem dX6_takes_23 : decode cX6_takes 23 = .ok (.putfield 72, 3) := dk_181 0 72 (dk_at dksX6_takes_1 0 rfl rfl)
theorem dX6_takes_26 : decode cX6_takes 26 = .ok (.return_, 1) := dk_177 (dk_at dksX6_takes_1 3 rfl rfl)
abbrev kX6_takes : KX := (cX6_takes, "TissueBalloonsModel", "takes", 2, none, [], 1)
abbrev cX6_drift : ByteArray := prog_14_method_75_code
def yX6_drift : MethodName := ⟨RX6, "drift", "()I"⟩
def dkwX6_drift_1 : List UInt8 := [42, 182, 0, 222, 116, 172]
abbrev dktX6_drift_1 : List UInt8 := dkwX6_drift_1 ++ []
def dkwX6_drift_0 : List UInt8 := [42, 182, 0, 219, 16, 45, 159, 0, 8, 42, 182, 0, 222, 172, 42, 89, 180, 0, 63, 4, 96, 181, 0, 63]
abbrev dktX6_drift_0 : List UInt8 := dkwX6_drift_0 ++ dktX6_drift_1
theorem dksX6_drift_0 : cX6_drift.data.toList.drop 0 = dktX6_drift_0 := by decide +kernel
theorem dksX6_drift_1 : cX6_drift.data.toList.drop 24 = dktX6_drift_1 := dk_seg dksX6_drift_0 24 rfl rfl
theorem dX6_drift_0 : decode cX6_drift 0 = .ok (.aload_n 0, 1) := dk_42 (dk_at dksX6_drift_0 0 rfl rfl)
theorem dX6_drift_1 : decode cX6_drift 1 = .ok (.invokevirtual 219, 3) := dk_182 0 219 (dk_at dksX6_drift_0 1 rfl rfl)
theorem dX6_drift_4 : decode cX6_drift 4 = .ok (.bipush 45, 2) := dk_16 45 (dk_at dksX6_drift_0 4 rfl rfl)
theorem dX6_drift_6 : decode cX6_drift 6 = .ok (.if_icmp .eq 8, 3) := dk_159 0 8 (dk_at dksX6_drift_0 6 rfl rfl)
theorem dX6_drift_9 : decode cX6_drift 9 = .ok (.aload_n 0, 1) := dk_42 (dk_at dksX6_drift_0 9 rfl rfl)
theorem dX6_drift_10 : decode cX6_drift 10 = .ok (.invokevirtual 222, 3) := dk_182 0 222 (dk_at dksX6_drift_0 10 rfl rfl)
theorem dX6_drift_13 : decode cX6_drift 13 = .ok (.ireturn, 1) := dk_172 (dk_at dksX6_drift_0 13 rfl rfl)
theorem dX6_drift_14 : decode cX6_drift 14 = .ok (.aload_n 0, 1) := dk_42 (dk_at dksX6_drift_0 14 rfl rfl)
theorem dX6_drift_15 : decode cX6_drift 15 = .ok (.dup, 1) := dk_89 (dk_at dksX6_drift_0 15 rfl rfl)
theorem dX6_drift_16 : decode cX6_drift 16 = .ok (.getfield 63, 3) := dk_180 0 63 (dk_at dksX6_drift_0 16 rfl rfl)
theorem dX6_drift_19 : decode cX6_drift 19 = .ok (.iconst 1, 1) := dk_4 (dk_at dksX6_drift_0 19 rfl rfl)
theorem dX6_drift_20 : decode cX6_drift 20 = .ok (.iadd, 1) := dk_96 (dk_at dksX6_drift_0 20 rfl rfl)
theorem dX6_drift_21 : decode cX6_drift 21 = .ok (.putfield 63, 3) := dk_181 0 63 (dk_at dksX6_drift_0 21 rfl rfl)
theorem dX6_drift_24 : decode cX6_drift 24 = .ok (.aload_n 0, 1) := dk_42 (dk_at dksX6_drift_1 0 rfl rfl)
theorem dX6_drift_25 : decode cX6_drift 25 = .ok (.invokevirtual 222, 3) := dk_182 0 222 (dk_at dksX6_drift_1 1 rfl rfl)
theorem dX6_drift_28 : decode cX6_drift 28 = .ok (.ineg, 1) := dk_116 (dk_at dksX6_drift_1 4 rfl rfl)
theorem dX6_drift_29 : decode cX6_drift 29 = .ok (.ireturn, 1) := dk_172 (dk_at dksX6_drift_1 5 rfl rfl)
abbrev kX6_drift : KX := (cX6_drift, "TissueBalloonsModel", "drift", 1, some .int, [], 2)
abbrev cX6_does : ByteArray := prog_14_method_78_code
def yX6_does : MethodName := ⟨RX6, "does", "(I)I"⟩
def dkwX6_does_10 : List UInt8 := [180, 0, 54, 27, 46, 182, 0, 216, 61, 3, 172]
abbrev dktX6_does_10 : List UInt8 := dkwX6_does_10 ++ []
def dkwX6_does_9 : List UInt8 := [4, 182, 0, 127, 61, 3, 172, 42, 180, 0, 54, 27, 46, 184, 0, 213, 154, 0, 5, 4, 172, 42, 42]
abbrev dktX6_does_9 : List UInt8 := dkwX6_does_9 ++ dktX6_does_10
def dkwX6_does_8 : List UInt8 := [5, 172, 42, 29, 42, 180, 0, 57, 27, 46, 182, 0, 137, 61, 3, 172, 29, 156, 0, 5, 4, 172, 42, 29]
abbrev dktX6_does_8 : List UInt8 := dkwX6_does_8 ++ dktX6_does_9
def dkwX6_does_7 : List UInt8 := [180, 0, 57, 27, 46, 4, 16, 9, 184, 0, 83, 154, 0, 5, 4, 172, 42, 29, 182, 0, 134, 153, 0, 5]
abbrev dktX6_does_7 : List UInt8 := dkwX6_does_7 ++ dktX6_does_8
def dkwX6_does_6 : List UInt8 := [42, 180, 0, 54, 27, 46, 42, 180, 0, 57, 27, 46, 182, 0, 164, 61, 3, 172, 29, 155, 0, 18, 42]
abbrev dktX6_does_6 : List UInt8 := dkwX6_does_6 ++ dktX6_does_7
def dkwX6_does_5 : List UInt8 := [4, 172, 42, 42, 180, 0, 54, 27, 46, 42, 180, 0, 57, 27, 46, 182, 0, 161, 153, 0, 5, 5, 172, 42]
abbrev dktX6_does_5 : List UInt8 := dkwX6_does_5 ++ dktX6_does_6
def dkwX6_does_4 : List UInt8 := [180, 0, 54, 27, 46, 182, 0, 158, 153, 0, 16, 42, 42, 180, 0, 57, 27, 46, 182, 0, 152, 154, 0, 5]
abbrev dktX6_does_4 : List UInt8 := dkwX6_does_4 ++ dktX6_does_5
def dkwX6_does_3 : List UInt8 := [4, 172, 42, 42, 180, 0, 54, 27, 46, 42, 180, 0, 57, 27, 46, 182, 0, 97, 61, 3, 172, 42, 42]
abbrev dktX6_does_3 : List UInt8 := dkwX6_does_3 ++ dktX6_does_4
def dkwX6_does_2 : List UInt8 := [42, 180, 0, 54, 27, 46, 184, 0, 90, 153, 0, 15, 42, 180, 0, 57, 27, 46, 184, 0, 94, 154, 0, 5]
abbrev dktX6_does_2 : List UInt8 := dkwX6_does_2 ++ dktX6_does_3
def dkwX6_does_1 : List UInt8 := [171, 0, 0, 0, 214, 0, 0, 0, 4, 0, 0, 0, 103, 0, 0, 0, 154, 0, 0, 0, 108, 0, 0, 0, 86, 0, 0, 0, 111, 0, 0, 0, 199, 0, 0, 0, 119, 0, 0, 0, 41]
abbrev dktX6_does_1 : List UInt8 := dkwX6_does_1 ++ dktX6_does_2
def dkwX6_does_0 : List UInt8 := [3, 61, 42, 42, 180, 0, 54, 27, 46, 182, 0, 110, 62, 42, 180, 0, 51, 27, 46]
abbrev dktX6_does_0 : List UInt8 := dkwX6_does_0 ++ dktX6_does_1
theorem dksX6_does_0 : cX6_does.data.toList.drop 0 = dktX6_does_0 := by decide +kernel
theorem dksX6_does_1 : cX6_does.data.toList.drop 19 = dktX6_does_1 := dk_seg dksX6_does_0 19 rfl rfl
theorem dksX6_does_2 : cX6_does.data.toList.drop 60 = dktX6_does_2 := dk_seg dksX6_does_1 41 rfl rfl
theorem dksX6_does_3 : cX6_does.data.toList.drop 84 = dktX6_does_3 := dk_seg dksX6_does_2 24 rfl rfl
theorem dksX6_does_4 : cX6_does.data.toList.drop 107 = dktX6_does_4 := dk_seg dksX6_does_3 23 rfl rfl
theorem dksX6_does_5 : cX6_does.data.toList.drop 131 = dktX6_does_5 := dk_seg dksX6_does_4 24 rfl rfl
theorem dksX6_does_6 : cX6_does.data.toList.drop 155 = dktX6_does_6 := dk_seg dksX6_does_5 24 rfl rfl
theorem dksX6_does_7 : cX6_does.data.toList.drop 178 = dktX6_does_7 := dk_seg dksX6_does_6 23 rfl rfl
theorem dksX6_does_8 : cX6_does.data.toList.drop 202 = dktX6_does_8 := dk_seg dksX6_does_7 24 rfl rfl
theorem dksX6_does_9 : cX6_does.data.toList.drop 226 = dktX6_does_9 := dk_seg dksX6_does_8 24 rfl rfl
theorem dksX6_does_10 : cX6_does.data.toList.drop 249 = dktX6_does_10 := dk_seg dksX6_does_9 23 rfl rfl
theorem dX6_does_0 : decode cX6_does 0 = .ok (.iconst 0, 1) := dk_3 (dk_at dksX6_does_0 0 rfl rfl)
theorem dX6_does_1 : decode cX6_does 1 = .ok (.istore_n 2, 1) := dk_61 (dk_at dksX6_does_0 1 rfl rfl)
theorem dX6_does_2 : decode cX6_does 2 = .ok (.aload_n 0, 1) := dk_42 (dk_at dksX6_does_0 2 rfl rfl)
theorem dX6_does_3 : decode cX6_does 3 = .ok (.aload_n 0, 1) := dk_42 (dk_at dksX6_does_0 3 rfl rfl)
theorem dX6_does_4 : decode cX6_does 4 = .ok (.getfield 54, 3) := dk_180 0 54 (dk_at dksX6_does_0 4 rfl rfl)
theorem dX6_does_7 : decode cX6_does 7 = .ok (.iload_n 1, 1) := dk_27 (dk_at dksX6_does_0 7 rfl rfl)
theorem dX6_does_8 : decode cX6_does 8 = .ok (.iaload, 1) := dk_46 (dk_at dksX6_does_0 8 rfl rfl)
theorem dX6_does_9 : decode cX6_does 9 = .ok (.invokevirtual 110, 3) := dk_182 0 110 (dk_at dksX6_does_0 9 rfl rfl)
theorem dX6_does_12 : decode cX6_does 12 = .ok (.istore_n 3, 1) := dk_62 (dk_at dksX6_does_0 12 rfl rfl)
theorem dX6_does_13 : decode cX6_does 13 = .ok (.aload_n 0, 1) := dk_42 (dk_at dksX6_does_0 13 rfl rfl)
theorem dX6_does_14 : decode cX6_does 14 = .ok (.getfield 51, 3) := dk_180 0 51 (dk_at dksX6_does_0 14 rfl rfl)
theorem dX6_does_17 : decode cX6_does 17 = .ok (.iload_n 1, 1) := dk_27 (dk_at dksX6_does_0 17 rfl rfl)
theorem dX6_does_18 : decode cX6_does 18 = .ok (.iaload, 1) := dk_46 (dk_at dksX6_does_0 18 rfl rfl)
theorem dX6_does_19 : decode cX6_does 19 = .ok (.lookupswitch 214 #[(103, 154), (108, 86), (111, 199), (119, 41)], 41) := by decide +kernel
theorem dX6_does_60 : decode cX6_does 60 = .ok (.aload_n 0, 1) := dk_42 (dk_at dksX6_does_2 0 rfl rfl)
theorem dX6_does_61 : decode cX6_does 61 = .ok (.getfield 54, 3) := dk_180 0 54 (dk_at dksX6_does_2 1 rfl rfl)
theorem dX6_does_64 : decode cX6_does 64 = .ok (.iload_n 1, 1) := dk_27 (dk_at dksX6_does_2 4 rfl rfl)
theorem dX6_does_65 : decode cX6_does 65 = .ok (.iaload, 1) := dk_46 (dk_at dksX6_does_2 5 rfl rfl)
theorem dX6_does_66 : decode cX6_does 66 = .ok (.invokestatic 90, 3) := dk_184 0 90 (dk_at dksX6_does_2 6 rfl rfl)
theorem dX6_does_69 : decode cX6_does 69 = .ok (.ifCond .eq 15, 3) := dk_153 0 15 (dk_at dksX6_does_2 9 rfl rfl)
theorem dX6_does_72 : decode cX6_does 72 = .ok (.aload_n 0, 1) := dk_42 (dk_at dksX6_does_2 12 rfl rfl)
theorem dX6_does_73 : decode cX6_does 73 = .ok (.getfield 57, 3) := dk_180 0 57 (dk_at dksX6_does_2 13 rfl rfl)
theorem dX6_does_76 : decode cX6_does 76 = .ok (.iload_n 1, 1) := dk_27 (dk_at dksX6_does_2 16 rfl rfl)
theorem dX6_does_77 : decode cX6_does 77 = .ok (.iaload, 1) := dk_46 (dk_at dksX6_does_2 17 rfl rfl)
theorem dX6_does_78 : decode cX6_does 78 = .ok (.invokestatic 94, 3) := dk_184 0 94 (dk_at dksX6_does_2 18 rfl rfl)
theorem dX6_does_81 : decode cX6_does 81 = .ok (.ifCond .ne 5, 3) := dk_154 0 5 (dk_at dksX6_does_2 21 rfl rfl)
theorem dX6_does_84 : decode cX6_does 84 = .ok (.iconst 1, 1) := dk_4 (dk_at dksX6_does_3 0 rfl rfl)
theorem dX6_does_85 : decode cX6_does 85 = .ok (.ireturn, 1) := dk_172 (dk_at dksX6_does_3 1 rfl rfl)
theorem dX6_does_86 : decode cX6_does 86 = .ok (.aload_n 0, 1) := dk_42 (dk_at dksX6_does_3 2 rfl rfl)
theorem dX6_does_87 : decode cX6_does 87 = .ok (.aload_n 0, 1) := dk_42 (dk_at dksX6_does_3 3 rfl rfl)
theorem dX6_does_88 : decode cX6_does 88 = .ok (.getfield 54, 3) := dk_180 0 54 (dk_at dksX6_does_3 4 rfl rfl)
theorem dX6_does_91 : decode cX6_does 91 = .ok (.iload_n 1, 1) := dk_27 (dk_at dksX6_does_3 7 rfl rfl)
theorem dX6_does_92 : decode cX6_does 92 = .ok (.iaload, 1) := dk_46 (dk_at dksX6_does_3 8 rfl rfl)
theorem dX6_does_93 : decode cX6_does 93 = .ok (.aload_n 0, 1) := dk_42 (dk_at dksX6_does_3 9 rfl rfl)
theorem dX6_does_94 : decode cX6_does 94 = .ok (.getfield 57, 3) := dk_180 0 57 (dk_at dksX6_does_3 10 rfl rfl)
theorem dX6_does_97 : decode cX6_does 97 = .ok (.iload_n 1, 1) := dk_27 (dk_at dksX6_does_3 13 rfl rfl)
theorem dX6_does_98 : decode cX6_does 98 = .ok (.iaload, 1) := dk_46 (dk_at dksX6_does_3 14 rfl rfl)
theorem dX6_does_99 : decode cX6_does 99 = .ok (.invokevirtual 97, 3) := dk_182 0 97 (dk_at dksX6_does_3 15 rfl rfl)
theorem dX6_does_102 : decode cX6_does 102 = .ok (.istore_n 2, 1) := dk_61 (dk_at dksX6_does_3 18 rfl rfl)
theorem dX6_does_103 : decode cX6_does 103 = .ok (.iconst 0, 1) := dk_3 (dk_at dksX6_does_3 19 rfl rfl)
theorem dX6_does_104 : decode cX6_does 104 = .ok (.ireturn, 1) := dk_172 (dk_at dksX6_does_3 20 rfl rfl)
theorem dX6_does_105 : decode cX6_does 105 = .ok (.aload_n 0, 1) := dk_42 (dk_at dksX6_does_3 21 rfl rfl)
theorem dX6_does_106 : decode cX6_does 106 = .ok (.aload_n 0, 1) := dk_42 (dk_at dksX6_does_3 22 rfl rfl)
theorem dX6_does_107 : decode cX6_does 107 = .ok (.getfield 54, 3) := dk_180 0 54 (dk_at dksX6_does_4 0 rfl rfl)
theorem dX6_does_110 : decode cX6_does 110 = .ok (.iload_n 1, 1) := dk_27 (dk_at dksX6_does_4 3 rfl rfl)
theorem dX6_does_111 : decode cX6_does 111 = .ok (.iaload, 1) := dk_46 (dk_at dksX6_does_4 4 rfl rfl)
theorem dX6_does_112 : decode cX6_does 112 = .ok (.invokevirtual 158, 3) := dk_182 0 158 (dk_at dksX6_does_4 5 rfl rfl)
theorem dX6_does_115 : decode cX6_does 115 = .ok (.ifCond .eq 16, 3) := dk_153 0 16 (dk_at dksX6_does_4 8 rfl rfl)
theorem dX6_does_118 : decode cX6_does 118 = .ok (.aload_n 0, 1) := dk_42 (dk_at dksX6_does_4 11 rfl rfl)
theorem dX6_does_119 : decode cX6_does 119 = .ok (.aload_n 0, 1) := dk_42 (dk_at dksX6_does_4 12 rfl rfl)
theorem dX6_does_120 : decode cX6_does 120 = .ok (.getfield 57, 3) := dk_180 0 57 (dk_at dksX6_does_4 13 rfl rfl)
theorem dX6_does_123 : decode cX6_does 123 = .ok (.iload_n 1, 1) := dk_27 (dk_at dksX6_does_4 16 rfl rfl)
theorem dX6_does_124 : decode cX6_does 124 = .ok (.iaload, 1) := dk_46 (dk_at dksX6_does_4 17 rfl rfl)
theorem dX6_does_125 : decode cX6_does 125 = .ok (.invokevirtual 152, 3) := dk_182 0 152 (dk_at dksX6_does_4 18 rfl rfl)
theorem dX6_does_128 : decode cX6_does 128 = .ok (.ifCond .ne 5, 3) := dk_154 0 5 (dk_at dksX6_does_4 21 rfl rfl)
theorem dX6_does_131 : decode cX6_does 131 = .ok (.iconst 1, 1) := dk_4 (dk_at dksX6_does_5 0 rfl rfl)
theorem dX6_does_132 : decode cX6_does 132 = .ok (.ireturn, 1) := dk_172 (dk_at dksX6_does_5 1 rfl rfl)
theorem dX6_does_133 : decode cX6_does 133 = .ok (.aload_n 0, 1) := dk_42 (dk_at dksX6_does_5 2 rfl rfl)
theorem dX6_does_134 : decode cX6_does 134 = .ok (.aload_n 0, 1) := dk_42 (dk_at dksX6_does_5 3 rfl rfl)
theorem dX6_does_135 : decode cX6_does 135 = .ok (.getfield 54, 3) := dk_180 0 54 (dk_at dksX6_does_5 4 rfl rfl)
theorem dX6_does_138 : decode cX6_does 138 = .ok (.iload_n 1, 1) := dk_27 (dk_at dksX6_does_5 7 rfl rfl)
theorem dX6_does_139 : decode cX6_does 139 = .ok (.iaload, 1) := dk_46 (dk_at dksX6_does_5 8 rfl rfl)
theorem dX6_does_140 : decode cX6_does 140 = .ok (.aload_n 0, 1) := dk_42 (dk_at dksX6_does_5 9 rfl rfl)
theorem dX6_does_141 : decode cX6_does 141 = .ok (.getfield 57, 3) := dk_180 0 57 (dk_at dksX6_does_5 10 rfl rfl)
theorem dX6_does_144 : decode cX6_does 144 = .ok (.iload_n 1, 1) := dk_27 (dk_at dksX6_does_5 13 rfl rfl)
theorem dX6_does_145 : decode cX6_does 145 = .ok (.iaload, 1) := dk_46 (dk_at dksX6_does_5 14 rfl rfl)
theorem dX6_does_146 : decode cX6_does 146 = .ok (.invokevirtual 161, 3) := dk_182 0 161 (dk_at dksX6_does_5 15 rfl rfl)
theorem dX6_does_149 : decode cX6_does 149 = .ok (.ifCond .eq 5, 3) := dk_153 0 5 (dk_at dksX6_does_5 18 rfl rfl)
theorem dX6_does_152 : decode cX6_does 152 = .ok (.iconst 2, 1) := dk_5 (dk_at dksX6_does_5 21 rfl rfl)
theorem dX6_does_153 : decode cX6_does 153 = .ok (.ireturn, 1) := dk_172 (dk_at dksX6_does_5 22 rfl rfl)
theorem dX6_does_154 : decode cX6_does 154 = .ok (.aload_n 0, 1) := dk_42 (dk_at dksX6_does_5 23 rfl rfl)
theorem dX6_does_155 : decode cX6_does 155 = .ok (.aload_n 0, 1) := dk_42 (dk_at dksX6_does_6 0 rfl rfl)
theorem dX6_does_156 : decode cX6_does 156 = .ok (.getfield 54, 3) := dk_180 0 54 (dk_at dksX6_does_6 1 rfl rfl)
theorem dX6_does_159 : decode cX6_does 159 = .ok (.iload_n 1, 1) := dk_27 (dk_at dksX6_does_6 4 rfl rfl)
theorem dX6_does_160 : decode cX6_does 160 = .ok (.iaload, 1) := dk_46 (dk_at dksX6_does_6 5 rfl rfl)
theorem dX6_does_161 : decode cX6_does 161 = .ok (.aload_n 0, 1) := dk_42 (dk_at dksX6_does_6 6 rfl rfl)
theorem dX6_does_162 : decode cX6_does 162 = .ok (.getfield 57, 3) := dk_180 0 57 (dk_at dksX6_does_6 7 rfl rfl)
theorem dX6_does_165 : decode cX6_does 165 = .ok (.iload_n 1, 1) := dk_27 (dk_at dksX6_does_6 10 rfl rfl)
theorem dX6_does_166 : decode cX6_does 166 = .ok (.iaload, 1) := dk_46 (dk_at dksX6_does_6 11 rfl rfl)
theorem dX6_does_167 : decode cX6_does 167 = .ok (.invokevirtual 164, 3) := dk_182 0 164 (dk_at dksX6_does_6 12 rfl rfl)
theorem dX6_does_170 : decode cX6_does 170 = .ok (.istore_n 2, 1) := dk_61 (dk_at dksX6_does_6 15 rfl rfl)
theorem dX6_does_171 : decode cX6_does 171 = .ok (.iconst 0, 1) := dk_3 (dk_at dksX6_does_6 16 rfl rfl)
theorem dX6_does_172 : decode cX6_does 172 = .ok (.ireturn, 1) := dk_172 (dk_at dksX6_does_6 17 rfl rfl)
theorem dX6_does_173 : decode cX6_does 173 = .ok (.iload_n 3, 1) := dk_29 (dk_at dksX6_does_6 18 rfl rfl)
theorem dX6_does_174 : decode cX6_does 174 = .ok (.ifCond .lt 18, 3) := dk_155 0 18 (dk_at dksX6_does_6 19 rfl rfl)
theorem dX6_does_177 : decode cX6_does 177 = .ok (.aload_n 0, 1) := dk_42 (dk_at dksX6_does_6 22 rfl rfl)
theorem dX6_does_178 : decode cX6_does 178 = .ok (.getfield 57, 3) := dk_180 0 57 (dk_at dksX6_does_7 0 rfl rfl)
theorem dX6_does_181 : decode cX6_does 181 = .ok (.iload_n 1, 1) := dk_27 (dk_at dksX6_does_7 3 rfl rfl)
theorem dX6_does_182 : decode cX6_does 182 = .ok (.iaload, 1) := dk_46 (dk_at dksX6_does_7 4 rfl rfl)
theorem dX6_does_183 : decode cX6_does 183 = .ok (.iconst 1, 1) := dk_4 (dk_at dksX6_does_7 5 rfl rfl)
theorem dX6_does_184 : decode cX6_does 184 = .ok (.bipush 9, 2) := dk_16 9 (dk_at dksX6_does_7 6 rfl rfl)
theorem dX6_does_186 : decode cX6_does 186 = .ok (.invokestatic 83, 3) := dk_184 0 83 (dk_at dksX6_does_7 8 rfl rfl)
theorem dX6_does_189 : decode cX6_does 189 = .ok (.ifCond .ne 5, 3) := dk_154 0 5 (dk_at dksX6_does_7 11 rfl rfl)
theorem dX6_does_192 : decode cX6_does 192 = .ok (.iconst 1, 1) := dk_4 (dk_at dksX6_does_7 14 rfl rfl)
theorem dX6_does_193 : decode cX6_does 193 = .ok (.ireturn, 1) := dk_172 (dk_at dksX6_does_7 15 rfl rfl)
theorem dX6_does_194 : decode cX6_does 194 = .ok (.aload_n 0, 1) := dk_42 (dk_at dksX6_does_7 16 rfl rfl)
theorem dX6_does_195 : decode cX6_does 195 = .ok (.iload_n 3, 1) := dk_29 (dk_at dksX6_does_7 17 rfl rfl)
theorem dX6_does_196 : decode cX6_does 196 = .ok (.invokevirtual 134, 3) := dk_182 0 134 (dk_at dksX6_does_7 18 rfl rfl)
theorem dX6_does_199 : decode cX6_does 199 = .ok (.ifCond .eq 5, 3) := dk_153 0 5 (dk_at dksX6_does_7 21 rfl rfl)
theorem dX6_does_202 : decode cX6_does 202 = .ok (.iconst 2, 1) := dk_5 (dk_at dksX6_does_8 0 rfl rfl)
theorem dX6_does_203 : decode cX6_does 203 = .ok (.ireturn, 1) := dk_172 (dk_at dksX6_does_8 1 rfl rfl)
theorem dX6_does_204 : decode cX6_does 204 = .ok (.aload_n 0, 1) := dk_42 (dk_at dksX6_does_8 2 rfl rfl)
theorem dX6_does_205 : decode cX6_does 205 = .ok (.iload_n 3, 1) := dk_29 (dk_at dksX6_does_8 3 rfl rfl)
theorem dX6_does_206 : decode cX6_does 206 = .ok (.aload_n 0, 1) := dk_42 (dk_at dksX6_does_8 4 rfl rfl)
theorem dX6_does_207 : decode cX6_does 207 = .ok (.getfield 57, 3) := dk_180 0 57 (dk_at dksX6_does_8 5 rfl rfl)
theorem dX6_does_210 : decode cX6_does 210 = .ok (.iload_n 1, 1) := dk_27 (dk_at dksX6_does_8 8 rfl rfl)
theorem dX6_does_211 : decode cX6_does 211 = .ok (.iaload, 1) := dk_46 (dk_at dksX6_does_8 9 rfl rfl)
theorem dX6_does_212 : decode cX6_does 212 = .ok (.invokevirtual 137, 3) := dk_182 0 137 (dk_at dksX6_does_8 10 rfl rfl)
theorem dX6_does_215 : decode cX6_does 215 = .ok (.istore_n 2, 1) := dk_61 (dk_at dksX6_does_8 13 rfl rfl)
theorem dX6_does_216 : decode cX6_does 216 = .ok (.iconst 0, 1) := dk_3 (dk_at dksX6_does_8 14 rfl rfl)
theorem dX6_does_217 : decode cX6_does 217 = .ok (.ireturn, 1) := dk_172 (dk_at dksX6_does_8 15 rfl rfl)
theorem dX6_does_218 : decode cX6_does 218 = .ok (.iload_n 3, 1) := dk_29 (dk_at dksX6_does_8 16 rfl rfl)
theorem dX6_does_219 : decode cX6_does 219 = .ok (.ifCond .ge 5, 3) := dk_156 0 5 (dk_at dksX6_does_8 17 rfl rfl)
theorem dX6_does_222 : decode cX6_does 222 = .ok (.iconst 1, 1) := dk_4 (dk_at dksX6_does_8 20 rfl rfl)
theorem dX6_does_223 : decode cX6_does 223 = .ok (.ireturn, 1) := dk_172 (dk_at dksX6_does_8 21 rfl rfl)
theorem dX6_does_224 : decode cX6_does 224 = .ok (.aload_n 0, 1) := dk_42 (dk_at dksX6_does_8 22 rfl rfl)
theorem dX6_does_225 : decode cX6_does 225 = .ok (.iload_n 3, 1) := dk_29 (dk_at dksX6_does_8 23 rfl rfl)
theorem dX6_does_226 : decode cX6_does 226 = .ok (.iconst 1, 1) := dk_4 (dk_at dksX6_does_9 0 rfl rfl)
theorem dX6_does_227 : decode cX6_does 227 = .ok (.invokevirtual 127, 3) := dk_182 0 127 (dk_at dksX6_does_9 1 rfl rfl)
theorem dX6_does_230 : decode cX6_does 230 = .ok (.istore_n 2, 1) := dk_61 (dk_at dksX6_does_9 4 rfl rfl)
theorem dX6_does_231 : decode cX6_does 231 = .ok (.iconst 0, 1) := dk_3 (dk_at dksX6_does_9 5 rfl rfl)
theorem dX6_does_232 : decode cX6_does 232 = .ok (.ireturn, 1) := dk_172 (dk_at dksX6_does_9 6 rfl rfl)
theorem dX6_does_233 : decode cX6_does 233 = .ok (.aload_n 0, 1) := dk_42 (dk_at dksX6_does_9 7 rfl rfl)
theorem dX6_does_234 : decode cX6_does 234 = .ok (.getfield 54, 3) := dk_180 0 54 (dk_at dksX6_does_9 8 rfl rfl)
theorem dX6_does_237 : decode cX6_does 237 = .ok (.iload_n 1, 1) := dk_27 (dk_at dksX6_does_9 11 rfl rfl)
theorem dX6_does_238 : decode cX6_does 238 = .ok (.iaload, 1) := dk_46 (dk_at dksX6_does_9 12 rfl rfl)
theorem dX6_does_239 : decode cX6_does 239 = .ok (.invokestatic 213, 3) := dk_184 0 213 (dk_at dksX6_does_9 13 rfl rfl)
theorem dX6_does_242 : decode cX6_does 242 = .ok (.ifCond .ne 5, 3) := dk_154 0 5 (dk_at dksX6_does_9 16 rfl rfl)
theorem dX6_does_245 : decode cX6_does 245 = .ok (.iconst 1, 1) := dk_4 (dk_at dksX6_does_9 19 rfl rfl)
theorem dX6_does_246 : decode cX6_does 246 = .ok (.ireturn, 1) := dk_172 (dk_at dksX6_does_9 20 rfl rfl)
theorem dX6_does_247 : decode cX6_does 247 = .ok (.aload_n 0, 1) := dk_42 (dk_at dksX6_does_9 21 rfl rfl)
theorem dX6_does_248 : decode cX6_does 248 = .ok (.aload_n 0, 1) := dk_42 (dk_at dksX6_does_9 22 rfl rfl)
theorem dX6_does_249 : decode cX6_does 249 = .ok (.getfield 54, 3) := dk_180 0 54 (dk_at dksX6_does_10 0 rfl rfl)
theorem dX6_does_252 : decode cX6_does 252 = .ok (.iload_n 1, 1) := dk_27 (dk_at dksX6_does_10 3 rfl rfl)
theorem dX6_does_253 : decode cX6_does 253 = .ok (.iaload, 1) := dk_46 (dk_at dksX6_does_10 4 rfl rfl)
theorem dX6_does_254 : decode cX6_does 254 = .ok (.invokevirtual 216, 3) := dk_182 0 216 (dk_at dksX6_does_10 5 rfl rfl)
theorem dX6_does_257 : decode cX6_does 257 = .ok (.istore_n 2, 1) := dk_61 (dk_at dksX6_does_10 8 rfl rfl)
theorem dX6_does_258 : decode cX6_does 258 = .ok (.iconst 0, 1) := dk_3 (dk_at dksX6_does_10 9 rfl rfl)
theorem dX6_does_259 : decode cX6_does 259 = .ok (.ireturn, 1) := dk_172 (dk_at dksX6_does_10 10 rfl rfl)
abbrev kX6_does : KX := (cX6_does, "TissueBalloonsModel", "does", 4, some .int, [], 7)
abbrev cX6_errorPosition : ByteArray := prog_14_method_80_code
def yX6_errorPosition : MethodName := ⟨RX6, "errorPosition", "()I"⟩
def dkwX6_errorPosition_0 : List UInt8 := [42, 3, 181, 0, 25, 42, 180, 0, 69, 172]
abbrev dktX6_errorPosition_0 : List UInt8 := dkwX6_errorPosition_0 ++ []
theorem dksX6_errorPosition_0 : cX6_errorPosition.data.toList.drop 0 = dktX6_errorPosition_0 := by decide +kernel
theorem dX6_errorPosition_0 : decode cX6_errorPosition 0 = .ok (.aload_n 0, 1) := dk_42 (dk_at dksX6_errorPosition_0 0 rfl rfl)
theorem dX6_errorPosition_1 : decode cX6_errorPosition 1 = .ok (.iconst 0, 1) := dk_3 (dk_at dksX6_errorPosition_0 1 rfl rfl)
theorem dX6_errorPosition_2 : decode cX6_errorPosition 2 = .ok (.putfield 25, 3) := dk_181 0 25 (dk_at dksX6_errorPosition_0 2 rfl rfl)
theorem dX6_errorPosition_5 : decode cX6_errorPosition 5 = .ok (.aload_n 0, 1) := dk_42 (dk_at dksX6_errorPosition_0 5 rfl rfl)
theorem dX6_errorPosition_6 : decode cX6_errorPosition 6 = .ok (.getfield 69, 3) := dk_180 0 69 (dk_at dksX6_errorPosition_0 6 rfl rfl)
theorem dX6_errorPosition_9 : decode cX6_errorPosition 9 = .ok (.ireturn, 1) := dk_172 (dk_at dksX6_errorPosition_0 9 rfl rfl)
abbrev kX6_errorPosition : KX := (cX6_errorPosition, "TissueBalloonsModel", "errorPosition", 1, some .int, [], 0)
abbrev cX6_refusal : ByteArray := prog_14_method_81_code
def yX6_refusal : MethodName := ⟨RX6, "refusal", "(Z)I"⟩
def dkwX6_refusal_1 : List UInt8 := [180, 0, 41, 167, 0, 7, 42, 180, 0, 38, 172]
abbrev dktX6_refusal_1 : List UInt8 := dkwX6_refusal_1 ++ []
def dkwX6_refusal_0 : List UInt8 := [42, 3, 181, 0, 25, 42, 180, 0, 38, 154, 0, 9, 42, 4, 182, 0, 75, 172, 27, 153, 0, 10, 42]
abbrev dktX6_refusal_0 : List UInt8 := dkwX6_refusal_0 ++ dktX6_refusal_1
theorem dksX6_refusal_0 : cX6_refusal.data.toList.drop 0 = dktX6_refusal_0 := by decide +kernel
theorem dksX6_refusal_1 : cX6_refusal.data.toList.drop 23 = dktX6_refusal_1 := dk_seg dksX6_refusal_0 23 rfl rfl
theorem dX6_refusal_0 : decode cX6_refusal 0 = .ok (.aload_n 0, 1) := dk_42 (dk_at dksX6_refusal_0 0 rfl rfl)
theorem dX6_refusal_1 : decode cX6_refusal 1 = .ok (.iconst 0, 1) := dk_3 (dk_at dksX6_refusal_0 1 rfl rfl)
theorem dX6_refusal_2 : decode cX6_refusal 2 = .ok (.putfield 25, 3) := dk_181 0 25 (dk_at dksX6_refusal_0 2 rfl rfl)
theorem dX6_refusal_5 : decode cX6_refusal 5 = .ok (.aload_n 0, 1) := dk_42 (dk_at dksX6_refusal_0 5 rfl rfl)
theorem dX6_refusal_6 : decode cX6_refusal 6 = .ok (.getfield 38, 3) := dk_180 0 38 (dk_at dksX6_refusal_0 6 rfl rfl)
theorem dX6_refusal_9 : decode cX6_refusal 9 = .ok (.ifCond .ne 9, 3) := dk_154 0 9 (dk_at dksX6_refusal_0 9 rfl rfl)
theorem dX6_refusal_12 : decode cX6_refusal 12 = .ok (.aload_n 0, 1) := dk_42 (dk_at dksX6_refusal_0 12 rfl rfl)
theorem dX6_refusal_13 : decode cX6_refusal 13 = .ok (.iconst 1, 1) := dk_4 (dk_at dksX6_refusal_0 13 rfl rfl)
theorem dX6_refusal_14 : decode cX6_refusal 14 = .ok (.invokevirtual 75, 3) := dk_182 0 75 (dk_at dksX6_refusal_0 14 rfl rfl)
theorem dX6_refusal_17 : decode cX6_refusal 17 = .ok (.ireturn, 1) := dk_172 (dk_at dksX6_refusal_0 17 rfl rfl)
theorem dX6_refusal_18 : decode cX6_refusal 18 = .ok (.iload_n 1, 1) := dk_27 (dk_at dksX6_refusal_0 18 rfl rfl)
theorem dX6_refusal_19 : decode cX6_refusal 19 = .ok (.ifCond .eq 10, 3) := dk_153 0 10 (dk_at dksX6_refusal_0 19 rfl rfl)
theorem dX6_refusal_22 : decode cX6_refusal 22 = .ok (.aload_n 0, 1) := dk_42 (dk_at dksX6_refusal_0 22 rfl rfl)
theorem dX6_refusal_23 : decode cX6_refusal 23 = .ok (.getfield 41, 3) := dk_180 0 41 (dk_at dksX6_refusal_1 0 rfl rfl)
theorem dX6_refusal_26 : decode cX6_refusal 26 = .ok (.goto 7, 3) := dk_167 0 7 (dk_at dksX6_refusal_1 3 rfl rfl)
theorem dX6_refusal_29 : decode cX6_refusal 29 = .ok (.aload_n 0, 1) := dk_42 (dk_at dksX6_refusal_1 6 rfl rfl)
theorem dX6_refusal_30 : decode cX6_refusal 30 = .ok (.getfield 38, 3) := dk_180 0 38 (dk_at dksX6_refusal_1 7 rfl rfl)
theorem dX6_refusal_33 : decode cX6_refusal 33 = .ok (.ireturn, 1) := dk_172 (dk_at dksX6_refusal_1 10 rfl rfl)
abbrev kX6_refusal : KX := (cX6_refusal, "TissueBalloonsModel", "refusal", 2, some .int, [], 1)
abbrev cX6_account : ByteArray := prog_14_method_84_code
def yX6_account : MethodName := ⟨RX6, "account", "(I)I"⟩
def dkwX6_account_5 : List UInt8 := [180, 0, 7, 16, 7, 46, 172, 42, 180, 0, 60, 172, 42, 180, 0, 29, 172, 42, 4, 182, 0, 75, 172]
abbrev dktX6_account_5 : List UInt8 := dkwX6_account_5 ++ []
def dkwX6_account_4 : List UInt8 := [180, 0, 7, 7, 46, 172, 42, 180, 0, 7, 8, 46, 172, 42, 180, 0, 7, 16, 6, 46, 172, 42]
abbrev dktX6_account_4 : List UInt8 := dkwX6_account_4 ++ dktX6_account_5
def dkwX6_account_3 : List UInt8 := [182, 0, 124, 172, 42, 180, 0, 7, 5, 46, 172, 42, 180, 0, 7, 6, 46, 172, 42, 182, 0, 245, 172, 42]
abbrev dktX6_account_3 : List UInt8 := dkwX6_account_3 ++ dktX6_account_4
def dkwX6_account_2 : List UInt8 := [42, 180, 0, 7, 3, 46, 172, 42, 180, 0, 7, 4, 46, 172, 42, 5, 182, 0, 124, 172, 42, 6]
abbrev dktX6_account_2 : List UInt8 := dkwX6_account_2 ++ dktX6_account_3
def dkwX6_account_1 : List UInt8 := [170, 0, 0, 0, 0, 0, 0, 173, 0, 0, 0, 0, 0, 0, 0, 17, 0, 0, 0, 88, 0, 0, 0, 95, 0, 0, 0, 102, 0, 0, 0, 108, 0, 0, 0, 114, 0, 0, 0, 173, 0, 0, 0, 173, 0, 0, 0, 173, 0, 0, 0, 173, 0, 0, 0, 173, 0, 0, 0, 121, 0, 0, 0, 128, 0, 0, 0, 133, 0, 0, 0, 140, 0, 0, 0, 147, 0, 0, 0, 155, 0, 0, 0, 163, 0, 0, 0, 168]
abbrev dktX6_account_1 : List UInt8 := dkwX6_account_1 ++ dktX6_account_2
def dkwX6_account_0 : List UInt8 := [42, 3, 181, 0, 25, 27, 8, 16, 9, 184, 0, 83, 153, 0, 11, 42, 27, 8, 100, 182, 0, 242, 172, 27]
abbrev dktX6_account_0 : List UInt8 := dkwX6_account_0 ++ dktX6_account_1
theorem dksX6_account_0 : cX6_account.data.toList.drop 0 = dktX6_account_0 := by decide +kernel
theorem dksX6_account_1 : cX6_account.data.toList.drop 24 = dktX6_account_1 := dk_seg dksX6_account_0 24 rfl rfl
theorem dksX6_account_2 : cX6_account.data.toList.drop 112 = dktX6_account_2 := dk_seg dksX6_account_1 88 rfl rfl
theorem dksX6_account_3 : cX6_account.data.toList.drop 134 = dktX6_account_3 := dk_seg dksX6_account_2 22 rfl rfl
theorem dksX6_account_4 : cX6_account.data.toList.drop 158 = dktX6_account_4 := dk_seg dksX6_account_3 24 rfl rfl
theorem dksX6_account_5 : cX6_account.data.toList.drop 180 = dktX6_account_5 := dk_seg dksX6_account_4 22 rfl rfl
theorem dX6_account_0 : decode cX6_account 0 = .ok (.aload_n 0, 1) := dk_42 (dk_at dksX6_account_0 0 rfl rfl)
theorem dX6_account_1 : decode cX6_account 1 = .ok (.iconst 0, 1) := dk_3 (dk_at dksX6_account_0 1 rfl rfl)
theorem dX6_account_2 : decode cX6_account 2 = .ok (.putfield 25, 3) := dk_181 0 25 (dk_at dksX6_account_0 2 rfl rfl)
theorem dX6_account_5 : decode cX6_account 5 = .ok (.iload_n 1, 1) := dk_27 (dk_at dksX6_account_0 5 rfl rfl)
theorem dX6_account_6 : decode cX6_account 6 = .ok (.iconst 5, 1) := dk_8 (dk_at dksX6_account_0 6 rfl rfl)
theorem dX6_account_7 : decode cX6_account 7 = .ok (.bipush 9, 2) := dk_16 9 (dk_at dksX6_account_0 7 rfl rfl)
theorem dX6_account_9 : decode cX6_account 9 = .ok (.invokestatic 83, 3) := dk_184 0 83 (dk_at dksX6_account_0 9 rfl rfl)
theorem dX6_account_12 : decode cX6_account 12 = .ok (.ifCond .eq 11, 3) := dk_153 0 11 (dk_at dksX6_account_0 12 rfl rfl)
theorem dX6_account_15 : decode cX6_account 15 = .ok (.aload_n 0, 1) := dk_42 (dk_at dksX6_account_0 15 rfl rfl)
theorem dX6_account_16 : decode cX6_account 16 = .ok (.iload_n 1, 1) := dk_27 (dk_at dksX6_account_0 16 rfl rfl)
theorem dX6_account_17 : decode cX6_account 17 = .ok (.iconst 5, 1) := dk_8 (dk_at dksX6_account_0 17 rfl rfl)
theorem dX6_account_18 : decode cX6_account 18 = .ok (.isub, 1) := dk_100 (dk_at dksX6_account_0 18 rfl rfl)
theorem dX6_account_19 : decode cX6_account 19 = .ok (.invokevirtual 242, 3) := dk_182 0 242 (dk_at dksX6_account_0 19 rfl rfl)
theorem dX6_account_22 : decode cX6_account 22 = .ok (.ireturn, 1) := dk_172 (dk_at dksX6_account_0 22 rfl rfl)
theorem dX6_account_23 : decode cX6_account 23 = .ok (.iload_n 1, 1) := dk_27 (dk_at dksX6_account_0 23 rfl rfl)
theorem dX6_account_24 : decode cX6_account 24 = .ok (.tableswitch 173 0 17 #[88, 95, 102, 108, 114, 173, 173, 173, 173, 173, 121, 128, 133, 140, 147, 155, 163, 168], 88) := by decide +kernel
theorem dX6_account_112 : decode cX6_account 112 = .ok (.aload_n 0, 1) := dk_42 (dk_at dksX6_account_2 0 rfl rfl)
theorem dX6_account_113 : decode cX6_account 113 = .ok (.getfield 7, 3) := dk_180 0 7 (dk_at dksX6_account_2 1 rfl rfl)
theorem dX6_account_116 : decode cX6_account 116 = .ok (.iconst 0, 1) := dk_3 (dk_at dksX6_account_2 4 rfl rfl)
theorem dX6_account_117 : decode cX6_account 117 = .ok (.iaload, 1) := dk_46 (dk_at dksX6_account_2 5 rfl rfl)
theorem dX6_account_118 : decode cX6_account 118 = .ok (.ireturn, 1) := dk_172 (dk_at dksX6_account_2 6 rfl rfl)
theorem dX6_account_119 : decode cX6_account 119 = .ok (.aload_n 0, 1) := dk_42 (dk_at dksX6_account_2 7 rfl rfl)
theorem dX6_account_120 : decode cX6_account 120 = .ok (.getfield 7, 3) := dk_180 0 7 (dk_at dksX6_account_2 8 rfl rfl)
theorem dX6_account_123 : decode cX6_account 123 = .ok (.iconst 1, 1) := dk_4 (dk_at dksX6_account_2 11 rfl rfl)
theorem dX6_account_124 : decode cX6_account 124 = .ok (.iaload, 1) := dk_46 (dk_at dksX6_account_2 12 rfl rfl)
theorem dX6_account_125 : decode cX6_account 125 = .ok (.ireturn, 1) := dk_172 (dk_at dksX6_account_2 13 rfl rfl)
theorem dX6_account_126 : decode cX6_account 126 = .ok (.aload_n 0, 1) := dk_42 (dk_at dksX6_account_2 14 rfl rfl)
theorem dX6_account_127 : decode cX6_account 127 = .ok (.iconst 2, 1) := dk_5 (dk_at dksX6_account_2 15 rfl rfl)
theorem dX6_account_128 : decode cX6_account 128 = .ok (.invokevirtual 124, 3) := dk_182 0 124 (dk_at dksX6_account_2 16 rfl rfl)
theorem dX6_account_131 : decode cX6_account 131 = .ok (.ireturn, 1) := dk_172 (dk_at dksX6_account_2 19 rfl rfl)
theorem dX6_account_132 : decode cX6_account 132 = .ok (.aload_n 0, 1) := dk_42 (dk_at dksX6_account_2 20 rfl rfl)
theorem dX6_account_133 : decode cX6_account 133 = .ok (.iconst 3, 1) := dk_6 (dk_at dksX6_account_2 21 rfl rfl)
theorem dX6_account_134 : decode cX6_account 134 = .ok (.invokevirtual 124, 3) := dk_182 0 124 (dk_at dksX6_account_3 0 rfl rfl)
theorem dX6_account_137 : decode cX6_account 137 = .ok (.ireturn, 1) := dk_172 (dk_at dksX6_account_3 3 rfl rfl)
theorem dX6_account_138 : decode cX6_account 138 = .ok (.aload_n 0, 1) := dk_42 (dk_at dksX6_account_3 4 rfl rfl)
theorem dX6_account_139 : decode cX6_account 139 = .ok (.getfield 7, 3) := dk_180 0 7 (dk_at dksX6_account_3 5 rfl rfl)
theorem dX6_account_142 : decode cX6_account 142 = .ok (.iconst 2, 1) := dk_5 (dk_at dksX6_account_3 8 rfl rfl)
theorem dX6_account_143 : decode cX6_account 143 = .ok (.iaload, 1) := dk_46 (dk_at dksX6_account_3 9 rfl rfl)
theorem dX6_account_144 : decode cX6_account 144 = .ok (.ireturn, 1) := dk_172 (dk_at dksX6_account_3 10 rfl rfl)
theorem dX6_account_145 : decode cX6_account 145 = .ok (.aload_n 0, 1) := dk_42 (dk_at dksX6_account_3 11 rfl rfl)
theorem dX6_account_146 : decode cX6_account 146 = .ok (.getfield 7, 3) := dk_180 0 7 (dk_at dksX6_account_3 12 rfl rfl)
theorem dX6_account_149 : decode cX6_account 149 = .ok (.iconst 3, 1) := dk_6 (dk_at dksX6_account_3 15 rfl rfl)
theorem dX6_account_150 : decode cX6_account 150 = .ok (.iaload, 1) := dk_46 (dk_at dksX6_account_3 16 rfl rfl)
theorem dX6_account_151 : decode cX6_account 151 = .ok (.ireturn, 1) := dk_172 (dk_at dksX6_account_3 17 rfl rfl)
theorem dX6_account_152 : decode cX6_account 152 = .ok (.aload_n 0, 1) := dk_42 (dk_at dksX6_account_3 18 rfl rfl)
theorem dX6_account_153 : decode cX6_account 153 = .ok (.invokevirtual 245, 3) := dk_182 0 245 (dk_at dksX6_account_3 19 rfl rfl)
theorem dX6_account_156 : decode cX6_account 156 = .ok (.ireturn, 1) := dk_172 (dk_at dksX6_account_3 22 rfl rfl)
theorem dX6_account_157 : decode cX6_account 157 = .ok (.aload_n 0, 1) := dk_42 (dk_at dksX6_account_3 23 rfl rfl)
theorem dX6_account_158 : decode cX6_account 158 = .ok (.getfield 7, 3) := dk_180 0 7 (dk_at dksX6_account_4 0 rfl rfl)
theorem dX6_account_161 : decode cX6_account 161 = .ok (.iconst 4, 1) := dk_7 (dk_at dksX6_account_4 3 rfl rfl)
theorem dX6_account_162 : decode cX6_account 162 = .ok (.iaload, 1) := dk_46 (dk_at dksX6_account_4 4 rfl rfl)
theorem dX6_account_163 : decode cX6_account 163 = .ok (.ireturn, 1) := dk_172 (dk_at dksX6_account_4 5 rfl rfl)
theorem dX6_account_164 : decode cX6_account 164 = .ok (.aload_n 0, 1) := dk_42 (dk_at dksX6_account_4 6 rfl rfl)
theorem dX6_account_165 : decode cX6_account 165 = .ok (.getfield 7, 3) := dk_180 0 7 (dk_at dksX6_account_4 7 rfl rfl)
theorem dX6_account_168 : decode cX6_account 168 = .ok (.iconst 5, 1) := dk_8 (dk_at dksX6_account_4 10 rfl rfl)
theorem dX6_account_169 : decode cX6_account 169 = .ok (.iaload, 1) := dk_46 (dk_at dksX6_account_4 11 rfl rfl)
theorem dX6_account_170 : decode cX6_account 170 = .ok (.ireturn, 1) := dk_172 (dk_at dksX6_account_4 12 rfl rfl)
theorem dX6_account_171 : decode cX6_account 171 = .ok (.aload_n 0, 1) := dk_42 (dk_at dksX6_account_4 13 rfl rfl)
theorem dX6_account_172 : decode cX6_account 172 = .ok (.getfield 7, 3) := dk_180 0 7 (dk_at dksX6_account_4 14 rfl rfl)
theorem dX6_account_175 : decode cX6_account 175 = .ok (.bipush 6, 2) := dk_16 6 (dk_at dksX6_account_4 17 rfl rfl)
theorem dX6_account_177 : decode cX6_account 177 = .ok (.iaload, 1) := dk_46 (dk_at dksX6_account_4 19 rfl rfl)
theorem dX6_account_178 : decode cX6_account 178 = .ok (.ireturn, 1) := dk_172 (dk_at dksX6_account_4 20 rfl rfl)
theorem dX6_account_179 : decode cX6_account 179 = .ok (.aload_n 0, 1) := dk_42 (dk_at dksX6_account_4 21 rfl rfl)
theorem dX6_account_180 : decode cX6_account 180 = .ok (.getfield 7, 3) := dk_180 0 7 (dk_at dksX6_account_5 0 rfl rfl)
theorem dX6_account_183 : decode cX6_account 183 = .ok (.bipush 7, 2) := dk_16 7 (dk_at dksX6_account_5 3 rfl rfl)
theorem dX6_account_185 : decode cX6_account 185 = .ok (.iaload, 1) := dk_46 (dk_at dksX6_account_5 5 rfl rfl)
theorem dX6_account_186 : decode cX6_account 186 = .ok (.ireturn, 1) := dk_172 (dk_at dksX6_account_5 6 rfl rfl)
theorem dX6_account_187 : decode cX6_account 187 = .ok (.aload_n 0, 1) := dk_42 (dk_at dksX6_account_5 7 rfl rfl)
theorem dX6_account_188 : decode cX6_account 188 = .ok (.getfield 60, 3) := dk_180 0 60 (dk_at dksX6_account_5 8 rfl rfl)
theorem dX6_account_191 : decode cX6_account 191 = .ok (.ireturn, 1) := dk_172 (dk_at dksX6_account_5 11 rfl rfl)
theorem dX6_account_192 : decode cX6_account 192 = .ok (.aload_n 0, 1) := dk_42 (dk_at dksX6_account_5 12 rfl rfl)
theorem dX6_account_193 : decode cX6_account 193 = .ok (.getfield 29, 3) := dk_180 0 29 (dk_at dksX6_account_5 13 rfl rfl)
theorem dX6_account_196 : decode cX6_account 196 = .ok (.ireturn, 1) := dk_172 (dk_at dksX6_account_5 16 rfl rfl)
theorem dX6_account_197 : decode cX6_account 197 = .ok (.aload_n 0, 1) := dk_42 (dk_at dksX6_account_5 17 rfl rfl)
theorem dX6_account_198 : decode cX6_account 198 = .ok (.iconst 1, 1) := dk_4 (dk_at dksX6_account_5 18 rfl rfl)
theorem dX6_account_199 : decode cX6_account 199 = .ok (.invokevirtual 75, 3) := dk_182 0 75 (dk_at dksX6_account_5 19 rfl rfl)
theorem dX6_account_202 : decode cX6_account 202 = .ok (.ireturn, 1) := dk_172 (dk_at dksX6_account_5 22 rfl rfl)
abbrev kX6_account : KX := (cX6_account, "TissueBalloonsModel", "account", 2, some .int, [], 2)
abbrev cX6_inState : ByteArray := prog_14_method_82_code
def yX6_inState : MethodName := ⟨RX6, "inState", "(I)I"⟩
def dkwX6_inState_1 : List UInt8 := [160, 0, 7, 4, 167, 0, 4, 3, 96, 61, 132, 3, 1, 167, 255, 225, 28, 172]
abbrev dktX6_inState_1 : List UInt8 := dkwX6_inState_1 ++ []
def dkwX6_inState_0 : List UInt8 := [3, 61, 3, 62, 29, 42, 180, 0, 7, 5, 46, 162, 0, 27, 28, 42, 29, 3, 182, 0, 140, 27]
abbrev dktX6_inState_0 : List UInt8 := dkwX6_inState_0 ++ dktX6_inState_1
theorem dksX6_inState_0 : cX6_inState.data.toList.drop 0 = dktX6_inState_0 := by decide +kernel
theorem dksX6_inState_1 : cX6_inState.data.toList.drop 22 = dktX6_inState_1 := dk_seg dksX6_inState_0 22 rfl rfl
theorem dX6_inState_0 : decode cX6_inState 0 = .ok (.iconst 0, 1) := dk_3 (dk_at dksX6_inState_0 0 rfl rfl)
theorem dX6_inState_1 : decode cX6_inState 1 = .ok (.istore_n 2, 1) := dk_61 (dk_at dksX6_inState_0 1 rfl rfl)
theorem dX6_inState_2 : decode cX6_inState 2 = .ok (.iconst 0, 1) := dk_3 (dk_at dksX6_inState_0 2 rfl rfl)
theorem dX6_inState_3 : decode cX6_inState 3 = .ok (.istore_n 3, 1) := dk_62 (dk_at dksX6_inState_0 3 rfl rfl)
theorem dX6_inState_4 : decode cX6_inState 4 = .ok (.iload_n 3, 1) := dk_29 (dk_at dksX6_inState_0 4 rfl rfl)
theorem dX6_inState_5 : decode cX6_inState 5 = .ok (.aload_n 0, 1) := dk_42 (dk_at dksX6_inState_0 5 rfl rfl)
theorem dX6_inState_6 : decode cX6_inState 6 = .ok (.getfield 7, 3) := dk_180 0 7 (dk_at dksX6_inState_0 6 rfl rfl)
theorem dX6_inState_9 : decode cX6_inState 9 = .ok (.iconst 2, 1) := dk_5 (dk_at dksX6_inState_0 9 rfl rfl)
theorem dX6_inState_10 : decode cX6_inState 10 = .ok (.iaload, 1) := dk_46 (dk_at dksX6_inState_0 10 rfl rfl)
theorem dX6_inState_11 : decode cX6_inState 11 = .ok (.if_icmp .ge 27, 3) := dk_162 0 27 (dk_at dksX6_inState_0 11 rfl rfl)
theorem dX6_inState_14 : decode cX6_inState 14 = .ok (.iload_n 2, 1) := dk_28 (dk_at dksX6_inState_0 14 rfl rfl)
theorem dX6_inState_15 : decode cX6_inState 15 = .ok (.aload_n 0, 1) := dk_42 (dk_at dksX6_inState_0 15 rfl rfl)
theorem dX6_inState_16 : decode cX6_inState 16 = .ok (.iload_n 3, 1) := dk_29 (dk_at dksX6_inState_0 16 rfl rfl)
theorem dX6_inState_17 : decode cX6_inState 17 = .ok (.iconst 0, 1) := dk_3 (dk_at dksX6_inState_0 17 rfl rfl)
theorem dX6_inState_18 : decode cX6_inState 18 = .ok (.invokevirtual 140, 3) := dk_182 0 140 (dk_at dksX6_inState_0 18 rfl rfl)
theorem dX6_inState_21 : decode cX6_inState 21 = .ok (.iload_n 1, 1) := dk_27 (dk_at dksX6_inState_0 21 rfl rfl)
theorem dX6_inState_22 : decode cX6_inState 22 = .ok (.if_icmp .ne 7, 3) := dk_160 0 7 (dk_at dksX6_inState_1 0 rfl rfl)
theorem dX6_inState_25 : decode cX6_inState 25 = .ok (.iconst 1, 1) := dk_4 (dk_at dksX6_inState_1 3 rfl rfl)
theorem dX6_inState_26 : decode cX6_inState 26 = .ok (.goto 4, 3) := dk_167 0 4 (dk_at dksX6_inState_1 4 rfl rfl)
theorem dX6_inState_29 : decode cX6_inState 29 = .ok (.iconst 0, 1) := dk_3 (dk_at dksX6_inState_1 7 rfl rfl)
theorem dX6_inState_30 : decode cX6_inState 30 = .ok (.iadd, 1) := dk_96 (dk_at dksX6_inState_1 8 rfl rfl)
theorem dX6_inState_31 : decode cX6_inState 31 = .ok (.istore_n 2, 1) := dk_61 (dk_at dksX6_inState_1 9 rfl rfl)
theorem dX6_inState_32 : decode cX6_inState 32 = .ok (.iinc 3 1, 3) := dk_132 3 1 (dk_at dksX6_inState_1 10 rfl rfl)
theorem dX6_inState_35 : decode cX6_inState 35 = .ok (.goto (-31), 3) := dk_167 255 225 (dk_at dksX6_inState_1 13 rfl rfl)
theorem dX6_inState_38 : decode cX6_inState 38 = .ok (.iload_n 2, 1) := dk_28 (dk_at dksX6_inState_1 16 rfl rfl)
theorem dX6_inState_39 : decode cX6_inState 39 = .ok (.ireturn, 1) := dk_172 (dk_at dksX6_inState_1 17 rfl rfl)
abbrev kX6_inState : KX := (cX6_inState, "TissueBalloonsModel", "inState", 4, some .int, [], 1)
abbrev cX6_busy : ByteArray := prog_14_method_83_code
def yX6_busy : MethodName := ⟨RX6, "busy", "()I"⟩
def dkwX6_busy_1 : List UInt8 := [4, 167, 0, 4, 3, 96, 60, 132, 2, 1, 167, 255, 226, 27, 172]
abbrev dktX6_busy_1 : List UInt8 := dkwX6_busy_1 ++ []
def dkwX6_busy_0 : List UInt8 := [3, 60, 3, 61, 28, 42, 180, 0, 7, 6, 46, 162, 0, 26, 27, 42, 28, 4, 182, 0, 155, 158, 0, 7]
abbrev dktX6_busy_0 : List UInt8 := dkwX6_busy_0 ++ dktX6_busy_1
theorem dksX6_busy_0 : cX6_busy.data.toList.drop 0 = dktX6_busy_0 := by decide +kernel
theorem dksX6_busy_1 : cX6_busy.data.toList.drop 24 = dktX6_busy_1 := dk_seg dksX6_busy_0 24 rfl rfl
theorem dX6_busy_0 : decode cX6_busy 0 = .ok (.iconst 0, 1) := dk_3 (dk_at dksX6_busy_0 0 rfl rfl)
theorem dX6_busy_1 : decode cX6_busy 1 = .ok (.istore_n 1, 1) := dk_60 (dk_at dksX6_busy_0 1 rfl rfl)
theorem dX6_busy_2 : decode cX6_busy 2 = .ok (.iconst 0, 1) := dk_3 (dk_at dksX6_busy_0 2 rfl rfl)
theorem dX6_busy_3 : decode cX6_busy 3 = .ok (.istore_n 2, 1) := dk_61 (dk_at dksX6_busy_0 3 rfl rfl)
theorem dX6_busy_4 : decode cX6_busy 4 = .ok (.iload_n 2, 1) := dk_28 (dk_at dksX6_busy_0 4 rfl rfl)
theorem dX6_busy_5 : decode cX6_busy 5 = .ok (.aload_n 0, 1) := dk_42 (dk_at dksX6_busy_0 5 rfl rfl)
theorem dX6_busy_6 : decode cX6_busy 6 = .ok (.getfield 7, 3) := dk_180 0 7 (dk_at dksX6_busy_0 6 rfl rfl)
theorem dX6_busy_9 : decode cX6_busy 9 = .ok (.iconst 3, 1) := dk_6 (dk_at dksX6_busy_0 9 rfl rfl)
theorem dX6_busy_10 : decode cX6_busy 10 = .ok (.iaload, 1) := dk_46 (dk_at dksX6_busy_0 10 rfl rfl)
theorem dX6_busy_11 : decode cX6_busy 11 = .ok (.if_icmp .ge 26, 3) := dk_162 0 26 (dk_at dksX6_busy_0 11 rfl rfl)
theorem dX6_busy_14 : decode cX6_busy 14 = .ok (.iload_n 1, 1) := dk_27 (dk_at dksX6_busy_0 14 rfl rfl)
theorem dX6_busy_15 : decode cX6_busy 15 = .ok (.aload_n 0, 1) := dk_42 (dk_at dksX6_busy_0 15 rfl rfl)
theorem dX6_busy_16 : decode cX6_busy 16 = .ok (.iload_n 2, 1) := dk_28 (dk_at dksX6_busy_0 16 rfl rfl)
theorem dX6_busy_17 : decode cX6_busy 17 = .ok (.iconst 1, 1) := dk_4 (dk_at dksX6_busy_0 17 rfl rfl)
theorem dX6_busy_18 : decode cX6_busy 18 = .ok (.invokevirtual 155, 3) := dk_182 0 155 (dk_at dksX6_busy_0 18 rfl rfl)
theorem dX6_busy_21 : decode cX6_busy 21 = .ok (.ifCond .le 7, 3) := dk_158 0 7 (dk_at dksX6_busy_0 21 rfl rfl)
theorem dX6_busy_24 : decode cX6_busy 24 = .ok (.iconst 1, 1) := dk_4 (dk_at dksX6_busy_1 0 rfl rfl)
theorem dX6_busy_25 : decode cX6_busy 25 = .ok (.goto 4, 3) := dk_167 0 4 (dk_at dksX6_busy_1 1 rfl rfl)
theorem dX6_busy_28 : decode cX6_busy 28 = .ok (.iconst 0, 1) := dk_3 (dk_at dksX6_busy_1 4 rfl rfl)
theorem dX6_busy_29 : decode cX6_busy 29 = .ok (.iadd, 1) := dk_96 (dk_at dksX6_busy_1 5 rfl rfl)
theorem dX6_busy_30 : decode cX6_busy 30 = .ok (.istore_n 1, 1) := dk_60 (dk_at dksX6_busy_1 6 rfl rfl)
theorem dX6_busy_31 : decode cX6_busy 31 = .ok (.iinc 2 1, 3) := dk_132 2 1 (dk_at dksX6_busy_1 7 rfl rfl)
theorem dX6_busy_34 : decode cX6_busy 34 = .ok (.goto (-30), 3) := dk_167 255 226 (dk_at dksX6_busy_1 10 rfl rfl)
theorem dX6_busy_37 : decode cX6_busy 37 = .ok (.iload_n 1, 1) := dk_27 (dk_at dksX6_busy_1 13 rfl rfl)
theorem dX6_busy_38 : decode cX6_busy 38 = .ok (.ireturn, 1) := dk_172 (dk_at dksX6_busy_1 14 rfl rfl)
abbrev kX6_busy : KX := (cX6_busy, "TissueBalloonsModel", "busy", 3, some .int, [], 1)
abbrev cX6_isWell : ByteArray := prog_14_method_85_code
def yX6_isWell : MethodName := ⟨RX6, "isWell", "()Z"⟩
def dkwX6_isWell_5 : List UInt8 := [160, 0, 18, 28, 42, 180, 0, 7, 16, 7, 46, 160, 0, 7, 4, 167, 0, 4, 3, 172]
abbrev dktX6_isWell_5 : List UInt8 := dkwX6_isWell_5 ++ []
def dkwX6_isWell_4 : List UInt8 := [160, 0, 40, 42, 180, 0, 7, 5, 46, 42, 3, 182, 0, 242, 100, 42, 180, 0, 7, 16, 6, 46]
abbrev dktX6_isWell_4 : List UInt8 := dkwX6_isWell_4 ++ dktX6_isWell_5
def dkwX6_isWell_3 : List UInt8 := [16, 6, 182, 0, 140, 158, 0, 5, 3, 172, 132, 3, 1, 167, 255, 212, 27, 42, 180, 0, 7, 16, 6, 46]
abbrev dktX6_isWell_3 : List UInt8 := dkwX6_isWell_3 ++ dktX6_isWell_4
def dkwX6_isWell_2 : List UInt8 := [162, 0, 40, 28, 42, 29, 16, 6, 182, 0, 140, 96, 61, 42, 29, 3, 182, 0, 140, 154, 0, 15, 42, 29]
abbrev dktX6_isWell_2 : List UInt8 := dkwX6_isWell_2 ++ dktX6_isWell_3
def dkwX6_isWell_1 : List UInt8 := [182, 0, 155, 96, 60, 132, 2, 1, 167, 255, 234, 3, 61, 3, 62, 29, 42, 180, 0, 7, 5, 46]
abbrev dktX6_isWell_1 : List UInt8 := dkwX6_isWell_1 ++ dktX6_isWell_2
def dkwX6_isWell_0 : List UInt8 := [42, 3, 181, 0, 25, 3, 60, 3, 61, 28, 42, 180, 0, 7, 6, 46, 162, 0, 18, 27, 42, 28, 5]
abbrev dktX6_isWell_0 : List UInt8 := dkwX6_isWell_0 ++ dktX6_isWell_1
theorem dksX6_isWell_0 : cX6_isWell.data.toList.drop 0 = dktX6_isWell_0 := by decide +kernel
theorem dksX6_isWell_1 : cX6_isWell.data.toList.drop 23 = dktX6_isWell_1 := dk_seg dksX6_isWell_0 23 rfl rfl
theorem dksX6_isWell_2 : cX6_isWell.data.toList.drop 45 = dktX6_isWell_2 := dk_seg dksX6_isWell_1 22 rfl rfl
theorem dksX6_isWell_3 : cX6_isWell.data.toList.drop 69 = dktX6_isWell_3 := dk_seg dksX6_isWell_2 24 rfl rfl
theorem dksX6_isWell_4 : cX6_isWell.data.toList.drop 93 = dktX6_isWell_4 := dk_seg dksX6_isWell_3 24 rfl rfl
theorem dksX6_isWell_5 : cX6_isWell.data.toList.drop 115 = dktX6_isWell_5 := dk_seg dksX6_isWell_4 22 rfl rfl
theorem dX6_isWell_0 : decode cX6_isWell 0 = .ok (.aload_n 0, 1) := dk_42 (dk_at dksX6_isWell_0 0 rfl rfl)
theorem dX6_isWell_1 : decode cX6_isWell 1 = .ok (.iconst 0, 1) := dk_3 (dk_at dksX6_isWell_0 1 rfl rfl)
theorem dX6_isWell_2 : decode cX6_isWell 2 = .ok (.putfield 25, 3) := dk_181 0 25 (dk_at dksX6_isWell_0 2 rfl rfl)
theorem dX6_isWell_5 : decode cX6_isWell 5 = .ok (.iconst 0, 1) := dk_3 (dk_at dksX6_isWell_0 5 rfl rfl)
theorem dX6_isWell_6 : decode cX6_isWell 6 = .ok (.istore_n 1, 1) := dk_60 (dk_at dksX6_isWell_0 6 rfl rfl)
theorem dX6_isWell_7 : decode cX6_isWell 7 = .ok (.iconst 0, 1) := dk_3 (dk_at dksX6_isWell_0 7 rfl rfl)
theorem dX6_isWell_8 : decode cX6_isWell 8 = .ok (.istore_n 2, 1) := dk_61 (dk_at dksX6_isWell_0 8 rfl rfl)
theorem dX6_isWell_9 : decode cX6_isWell 9 = .ok (.iload_n 2, 1) := dk_28 (dk_at dksX6_isWell_0 9 rfl rfl)
theorem dX6_isWell_10 : decode cX6_isWell 10 = .ok (.aload_n 0, 1) := dk_42 (dk_at dksX6_isWell_0 10 rfl rfl)
theorem dX6_isWell_11 : decode cX6_isWell 11 = .ok (.getfield 7, 3) := dk_180 0 7 (dk_at dksX6_isWell_0 11 rfl rfl)
theorem dX6_isWell_14 : decode cX6_isWell 14 = .ok (.iconst 3, 1) := dk_6 (dk_at dksX6_isWell_0 14 rfl rfl)
theorem dX6_isWell_15 : decode cX6_isWell 15 = .ok (.iaload, 1) := dk_46 (dk_at dksX6_isWell_0 15 rfl rfl)
theorem dX6_isWell_16 : decode cX6_isWell 16 = .ok (.if_icmp .ge 18, 3) := dk_162 0 18 (dk_at dksX6_isWell_0 16 rfl rfl)
theorem dX6_isWell_19 : decode cX6_isWell 19 = .ok (.iload_n 1, 1) := dk_27 (dk_at dksX6_isWell_0 19 rfl rfl)
theorem dX6_isWell_20 : decode cX6_isWell 20 = .ok (.aload_n 0, 1) := dk_42 (dk_at dksX6_isWell_0 20 rfl rfl)
theorem dX6_isWell_21 : decode cX6_isWell 21 = .ok (.iload_n 2, 1) := dk_28 (dk_at dksX6_isWell_0 21 rfl rfl)
theorem dX6_isWell_22 : decode cX6_isWell 22 = .ok (.iconst 2, 1) := dk_5 (dk_at dksX6_isWell_0 22 rfl rfl)
theorem dX6_isWell_23 : decode cX6_isWell 23 = .ok (.invokevirtual 155, 3) := dk_182 0 155 (dk_at dksX6_isWell_1 0 rfl rfl)
theorem dX6_isWell_26 : decode cX6_isWell 26 = .ok (.iadd, 1) := dk_96 (dk_at dksX6_isWell_1 3 rfl rfl)
theorem dX6_isWell_27 : decode cX6_isWell 27 = .ok (.istore_n 1, 1) := dk_60 (dk_at dksX6_isWell_1 4 rfl rfl)
theorem dX6_isWell_28 : decode cX6_isWell 28 = .ok (.iinc 2 1, 3) := dk_132 2 1 (dk_at dksX6_isWell_1 5 rfl rfl)
theorem dX6_isWell_31 : decode cX6_isWell 31 = .ok (.goto (-22), 3) := dk_167 255 234 (dk_at dksX6_isWell_1 8 rfl rfl)
theorem dX6_isWell_34 : decode cX6_isWell 34 = .ok (.iconst 0, 1) := dk_3 (dk_at dksX6_isWell_1 11 rfl rfl)
theorem dX6_isWell_35 : decode cX6_isWell 35 = .ok (.istore_n 2, 1) := dk_61 (dk_at dksX6_isWell_1 12 rfl rfl)
theorem dX6_isWell_36 : decode cX6_isWell 36 = .ok (.iconst 0, 1) := dk_3 (dk_at dksX6_isWell_1 13 rfl rfl)
theorem dX6_isWell_37 : decode cX6_isWell 37 = .ok (.istore_n 3, 1) := dk_62 (dk_at dksX6_isWell_1 14 rfl rfl)
theorem dX6_isWell_38 : decode cX6_isWell 38 = .ok (.iload_n 3, 1) := dk_29 (dk_at dksX6_isWell_1 15 rfl rfl)
theorem dX6_isWell_39 : decode cX6_isWell 39 = .ok (.aload_n 0, 1) := dk_42 (dk_at dksX6_isWell_1 16 rfl rfl)
theorem dX6_isWell_40 : decode cX6_isWell 40 = .ok (.getfield 7, 3) := dk_180 0 7 (dk_at dksX6_isWell_1 17 rfl rfl)
theorem dX6_isWell_43 : decode cX6_isWell 43 = .ok (.iconst 2, 1) := dk_5 (dk_at dksX6_isWell_1 20 rfl rfl)
theorem dX6_isWell_44 : decode cX6_isWell 44 = .ok (.iaload, 1) := dk_46 (dk_at dksX6_isWell_1 21 rfl rfl)
theorem dX6_isWell_45 : decode cX6_isWell 45 = .ok (.if_icmp .ge 40, 3) := dk_162 0 40 (dk_at dksX6_isWell_2 0 rfl rfl)
theorem dX6_isWell_48 : decode cX6_isWell 48 = .ok (.iload_n 2, 1) := dk_28 (dk_at dksX6_isWell_2 3 rfl rfl)
theorem dX6_isWell_49 : decode cX6_isWell 49 = .ok (.aload_n 0, 1) := dk_42 (dk_at dksX6_isWell_2 4 rfl rfl)
theorem dX6_isWell_50 : decode cX6_isWell 50 = .ok (.iload_n 3, 1) := dk_29 (dk_at dksX6_isWell_2 5 rfl rfl)
theorem dX6_isWell_51 : decode cX6_isWell 51 = .ok (.bipush 6, 2) := dk_16 6 (dk_at dksX6_isWell_2 6 rfl rfl)
theorem dX6_isWell_53 : decode cX6_isWell 53 = .ok (.invokevirtual 140, 3) := dk_182 0 140 (dk_at dksX6_isWell_2 8 rfl rfl)
theorem dX6_isWell_56 : decode cX6_isWell 56 = .ok (.iadd, 1) := dk_96 (dk_at dksX6_isWell_2 11 rfl rfl)
theorem dX6_isWell_57 : decode cX6_isWell 57 = .ok (.istore_n 2, 1) := dk_61 (dk_at dksX6_isWell_2 12 rfl rfl)
theorem dX6_isWell_58 : decode cX6_isWell 58 = .ok (.aload_n 0, 1) := dk_42 (dk_at dksX6_isWell_2 13 rfl rfl)
theorem dX6_isWell_59 : decode cX6_isWell 59 = .ok (.iload_n 3, 1) := dk_29 (dk_at dksX6_isWell_2 14 rfl rfl)
theorem dX6_isWell_60 : decode cX6_isWell 60 = .ok (.iconst 0, 1) := dk_3 (dk_at dksX6_isWell_2 15 rfl rfl)
theorem dX6_isWell_61 : decode cX6_isWell 61 = .ok (.invokevirtual 140, 3) := dk_182 0 140 (dk_at dksX6_isWell_2 16 rfl rfl)
theorem dX6_isWell_64 : decode cX6_isWell 64 = .ok (.ifCond .ne 15, 3) := dk_154 0 15 (dk_at dksX6_isWell_2 19 rfl rfl)
theorem dX6_isWell_67 : decode cX6_isWell 67 = .ok (.aload_n 0, 1) := dk_42 (dk_at dksX6_isWell_2 22 rfl rfl)
theorem dX6_isWell_68 : decode cX6_isWell 68 = .ok (.iload_n 3, 1) := dk_29 (dk_at dksX6_isWell_2 23 rfl rfl)
theorem dX6_isWell_69 : decode cX6_isWell 69 = .ok (.bipush 6, 2) := dk_16 6 (dk_at dksX6_isWell_3 0 rfl rfl)
theorem dX6_isWell_71 : decode cX6_isWell 71 = .ok (.invokevirtual 140, 3) := dk_182 0 140 (dk_at dksX6_isWell_3 2 rfl rfl)
theorem dX6_isWell_74 : decode cX6_isWell 74 = .ok (.ifCond .le 5, 3) := dk_158 0 5 (dk_at dksX6_isWell_3 5 rfl rfl)
theorem dX6_isWell_77 : decode cX6_isWell 77 = .ok (.iconst 0, 1) := dk_3 (dk_at dksX6_isWell_3 8 rfl rfl)
theorem dX6_isWell_78 : decode cX6_isWell 78 = .ok (.ireturn, 1) := dk_172 (dk_at dksX6_isWell_3 9 rfl rfl)
theorem dX6_isWell_79 : decode cX6_isWell 79 = .ok (.iinc 3 1, 3) := dk_132 3 1 (dk_at dksX6_isWell_3 10 rfl rfl)
theorem dX6_isWell_82 : decode cX6_isWell 82 = .ok (.goto (-44), 3) := dk_167 255 212 (dk_at dksX6_isWell_3 13 rfl rfl)
theorem dX6_isWell_85 : decode cX6_isWell 85 = .ok (.iload_n 1, 1) := dk_27 (dk_at dksX6_isWell_3 16 rfl rfl)
theorem dX6_isWell_86 : decode cX6_isWell 86 = .ok (.aload_n 0, 1) := dk_42 (dk_at dksX6_isWell_3 17 rfl rfl)
theorem dX6_isWell_87 : decode cX6_isWell 87 = .ok (.getfield 7, 3) := dk_180 0 7 (dk_at dksX6_isWell_3 18 rfl rfl)
theorem dX6_isWell_90 : decode cX6_isWell 90 = .ok (.bipush 6, 2) := dk_16 6 (dk_at dksX6_isWell_3 21 rfl rfl)
theorem dX6_isWell_92 : decode cX6_isWell 92 = .ok (.iaload, 1) := dk_46 (dk_at dksX6_isWell_3 23 rfl rfl)
theorem dX6_isWell_93 : decode cX6_isWell 93 = .ok (.if_icmp .ne 40, 3) := dk_160 0 40 (dk_at dksX6_isWell_4 0 rfl rfl)
theorem dX6_isWell_96 : decode cX6_isWell 96 = .ok (.aload_n 0, 1) := dk_42 (dk_at dksX6_isWell_4 3 rfl rfl)
theorem dX6_isWell_97 : decode cX6_isWell 97 = .ok (.getfield 7, 3) := dk_180 0 7 (dk_at dksX6_isWell_4 4 rfl rfl)
theorem dX6_isWell_100 : decode cX6_isWell 100 = .ok (.iconst 2, 1) := dk_5 (dk_at dksX6_isWell_4 7 rfl rfl)
theorem dX6_isWell_101 : decode cX6_isWell 101 = .ok (.iaload, 1) := dk_46 (dk_at dksX6_isWell_4 8 rfl rfl)
theorem dX6_isWell_102 : decode cX6_isWell 102 = .ok (.aload_n 0, 1) := dk_42 (dk_at dksX6_isWell_4 9 rfl rfl)
theorem dX6_isWell_103 : decode cX6_isWell 103 = .ok (.iconst 0, 1) := dk_3 (dk_at dksX6_isWell_4 10 rfl rfl)
theorem dX6_isWell_104 : decode cX6_isWell 104 = .ok (.invokevirtual 242, 3) := dk_182 0 242 (dk_at dksX6_isWell_4 11 rfl rfl)
theorem dX6_isWell_107 : decode cX6_isWell 107 = .ok (.isub, 1) := dk_100 (dk_at dksX6_isWell_4 14 rfl rfl)
theorem dX6_isWell_108 : decode cX6_isWell 108 = .ok (.aload_n 0, 1) := dk_42 (dk_at dksX6_isWell_4 15 rfl rfl)
theorem dX6_isWell_109 : decode cX6_isWell 109 = .ok (.getfield 7, 3) := dk_180 0 7 (dk_at dksX6_isWell_4 16 rfl rfl)
theorem dX6_isWell_112 : decode cX6_isWell 112 = .ok (.bipush 6, 2) := dk_16 6 (dk_at dksX6_isWell_4 19 rfl rfl)
theorem dX6_isWell_114 : decode cX6_isWell 114 = .ok (.iaload, 1) := dk_46 (dk_at dksX6_isWell_4 21 rfl rfl)
theorem dX6_isWell_115 : decode cX6_isWell 115 = .ok (.if_icmp .ne 18, 3) := dk_160 0 18 (dk_at dksX6_isWell_5 0 rfl rfl)
theorem dX6_isWell_118 : decode cX6_isWell 118 = .ok (.iload_n 2, 1) := dk_28 (dk_at dksX6_isWell_5 3 rfl rfl)
theorem dX6_isWell_119 : decode cX6_isWell 119 = .ok (.aload_n 0, 1) := dk_42 (dk_at dksX6_isWell_5 4 rfl rfl)
theorem dX6_isWell_120 : decode cX6_isWell 120 = .ok (.getfield 7, 3) := dk_180 0 7 (dk_at dksX6_isWell_5 5 rfl rfl)
theorem dX6_isWell_123 : decode cX6_isWell 123 = .ok (.bipush 7, 2) := dk_16 7 (dk_at dksX6_isWell_5 8 rfl rfl)
theorem dX6_isWell_125 : decode cX6_isWell 125 = .ok (.iaload, 1) := dk_46 (dk_at dksX6_isWell_5 10 rfl rfl)
theorem dX6_isWell_126 : decode cX6_isWell 126 = .ok (.if_icmp .ne 7, 3) := dk_160 0 7 (dk_at dksX6_isWell_5 11 rfl rfl)
theorem dX6_isWell_129 : decode cX6_isWell 129 = .ok (.iconst 1, 1) := dk_4 (dk_at dksX6_isWell_5 14 rfl rfl)
theorem dX6_isWell_130 : decode cX6_isWell 130 = .ok (.goto 4, 3) := dk_167 0 4 (dk_at dksX6_isWell_5 15 rfl rfl)
theorem dX6_isWell_133 : decode cX6_isWell 133 = .ok (.iconst 0, 1) := dk_3 (dk_at dksX6_isWell_5 18 rfl rfl)
theorem dX6_isWell_134 : decode cX6_isWell 134 = .ok (.ireturn, 1) := dk_172 (dk_at dksX6_isWell_5 19 rfl rfl)
abbrev kX6_isWell : KX := (cX6_isWell, "TissueBalloonsModel", "isWell", 4, some .boolean, [], 2)
abbrev cX6_meanFlight : ByteArray := prog_14_method_86_code
def yX6_meanFlight : MethodName := ⟨RX6, "meanFlight", "()D"⟩
def dkwX6_meanFlight_2 : List UInt8 := [175]
abbrev dktX6_meanFlight_2 : List UInt8 := dkwX6_meanFlight_2 ++ []
def dkwX6_meanFlight_1 : List UInt8 := [158, 0, 7, 14, 167, 0, 20, 42, 180, 0, 7, 16, 7, 46, 135, 42, 180, 0, 7, 16, 6, 46, 135, 111]
abbrev dktX6_meanFlight_1 : List UInt8 := dkwX6_meanFlight_1 ++ dktX6_meanFlight_2
def dkwX6_meanFlight_0 : List UInt8 := [42, 42, 180, 0, 7, 16, 6, 46, 154, 0, 7, 4, 167, 0, 4, 3, 181, 0, 25, 42, 180, 0, 25]
abbrev dktX6_meanFlight_0 : List UInt8 := dkwX6_meanFlight_0 ++ dktX6_meanFlight_1
theorem dksX6_meanFlight_0 : cX6_meanFlight.data.toList.drop 0 = dktX6_meanFlight_0 := by decide +kernel
theorem dksX6_meanFlight_1 : cX6_meanFlight.data.toList.drop 23 = dktX6_meanFlight_1 := dk_seg dksX6_meanFlight_0 23 rfl rfl
theorem dksX6_meanFlight_2 : cX6_meanFlight.data.toList.drop 47 = dktX6_meanFlight_2 := dk_seg dksX6_meanFlight_1 24 rfl rfl
theorem dX6_meanFlight_0 : decode cX6_meanFlight 0 = .ok (.aload_n 0, 1) := dk_42 (dk_at dksX6_meanFlight_0 0 rfl rfl)
theorem dX6_meanFlight_1 : decode cX6_meanFlight 1 = .ok (.aload_n 0, 1) := dk_42 (dk_at dksX6_meanFlight_0 1 rfl rfl)
theorem dX6_meanFlight_2 : decode cX6_meanFlight 2 = .ok (.getfield 7, 3) := dk_180 0 7 (dk_at dksX6_meanFlight_0 2 rfl rfl)
theorem dX6_meanFlight_5 : decode cX6_meanFlight 5 = .ok (.bipush 6, 2) := dk_16 6 (dk_at dksX6_meanFlight_0 5 rfl rfl)
theorem dX6_meanFlight_7 : decode cX6_meanFlight 7 = .ok (.iaload, 1) := dk_46 (dk_at dksX6_meanFlight_0 7 rfl rfl)
theorem dX6_meanFlight_8 : decode cX6_meanFlight 8 = .ok (.ifCond .ne 7, 3) := dk_154 0 7 (dk_at dksX6_meanFlight_0 8 rfl rfl)
theorem dX6_meanFlight_11 : decode cX6_meanFlight 11 = .ok (.iconst 1, 1) := dk_4 (dk_at dksX6_meanFlight_0 11 rfl rfl)
theorem dX6_meanFlight_12 : decode cX6_meanFlight 12 = .ok (.goto 4, 3) := dk_167 0 4 (dk_at dksX6_meanFlight_0 12 rfl rfl)
theorem dX6_meanFlight_15 : decode cX6_meanFlight 15 = .ok (.iconst 0, 1) := dk_3 (dk_at dksX6_meanFlight_0 15 rfl rfl)
theorem dX6_meanFlight_16 : decode cX6_meanFlight 16 = .ok (.putfield 25, 3) := dk_181 0 25 (dk_at dksX6_meanFlight_0 16 rfl rfl)
theorem dX6_meanFlight_19 : decode cX6_meanFlight 19 = .ok (.aload_n 0, 1) := dk_42 (dk_at dksX6_meanFlight_0 19 rfl rfl)
theorem dX6_meanFlight_20 : decode cX6_meanFlight 20 = .ok (.getfield 25, 3) := dk_180 0 25 (dk_at dksX6_meanFlight_0 20 rfl rfl)
theorem dX6_meanFlight_23 : decode cX6_meanFlight 23 = .ok (.ifCond .le 7, 3) := dk_158 0 7 (dk_at dksX6_meanFlight_1 0 rfl rfl)
theorem dX6_meanFlight_26 : decode cX6_meanFlight 26 = .ok (.dconst 0, 1) := dk_14 (dk_at dksX6_meanFlight_1 3 rfl rfl)
theorem dX6_meanFlight_27 : decode cX6_meanFlight 27 = .ok (.goto 20, 3) := dk_167 0 20 (dk_at dksX6_meanFlight_1 4 rfl rfl)
theorem dX6_meanFlight_30 : decode cX6_meanFlight 30 = .ok (.aload_n 0, 1) := dk_42 (dk_at dksX6_meanFlight_1 7 rfl rfl)
theorem dX6_meanFlight_31 : decode cX6_meanFlight 31 = .ok (.getfield 7, 3) := dk_180 0 7 (dk_at dksX6_meanFlight_1 8 rfl rfl)
theorem dX6_meanFlight_34 : decode cX6_meanFlight 34 = .ok (.bipush 7, 2) := dk_16 7 (dk_at dksX6_meanFlight_1 11 rfl rfl)
theorem dX6_meanFlight_36 : decode cX6_meanFlight 36 = .ok (.iaload, 1) := dk_46 (dk_at dksX6_meanFlight_1 13 rfl rfl)
theorem dX6_meanFlight_37 : decode cX6_meanFlight 37 = .ok (.i2d, 1) := dk_135 (dk_at dksX6_meanFlight_1 14 rfl rfl)
theorem dX6_meanFlight_38 : decode cX6_meanFlight 38 = .ok (.aload_n 0, 1) := dk_42 (dk_at dksX6_meanFlight_1 15 rfl rfl)
theorem dX6_meanFlight_39 : decode cX6_meanFlight 39 = .ok (.getfield 7, 3) := dk_180 0 7 (dk_at dksX6_meanFlight_1 16 rfl rfl)
theorem dX6_meanFlight_42 : decode cX6_meanFlight 42 = .ok (.bipush 6, 2) := dk_16 6 (dk_at dksX6_meanFlight_1 19 rfl rfl)
theorem dX6_meanFlight_44 : decode cX6_meanFlight 44 = .ok (.iaload, 1) := dk_46 (dk_at dksX6_meanFlight_1 21 rfl rfl)
theorem dX6_meanFlight_45 : decode cX6_meanFlight 45 = .ok (.i2d, 1) := dk_135 (dk_at dksX6_meanFlight_1 22 rfl rfl)
theorem dX6_meanFlight_46 : decode cX6_meanFlight 46 = .ok (.ddiv, 1) := dk_111 (dk_at dksX6_meanFlight_1 23 rfl rfl)
theorem dX6_meanFlight_47 : decode cX6_meanFlight 47 = .ok (.dreturn, 1) := dk_175 (dk_at dksX6_meanFlight_2 0 rfl rfl)
abbrev kX6_meanFlight : KX := (cX6_meanFlight, "TissueBalloonsModel", "meanFlight", 1, some .double, [], 0)
abbrev cX6_burnt : ByteArray := prog_14_method_87_code
def yX6_burnt : MethodName := ⟨RX6, "burnt", "()F"⟩
def dkwX6_burnt_1 : List UInt8 := [158, 0, 7, 11, 167, 0, 17, 42, 6, 182, 0, 124, 134, 42, 180, 0, 7, 4, 46, 134, 110, 174]
abbrev dktX6_burnt_1 : List UInt8 := dkwX6_burnt_1 ++ []
def dkwX6_burnt_0 : List UInt8 := [42, 42, 180, 0, 7, 4, 46, 154, 0, 7, 4, 167, 0, 4, 3, 181, 0, 25, 42, 180, 0, 25]
abbrev dktX6_burnt_0 : List UInt8 := dkwX6_burnt_0 ++ dktX6_burnt_1
theorem dksX6_burnt_0 : cX6_burnt.data.toList.drop 0 = dktX6_burnt_0 := by decide +kernel
theorem dksX6_burnt_1 : cX6_burnt.data.toList.drop 22 = dktX6_burnt_1 := dk_seg dksX6_burnt_0 22 rfl rfl
theorem dX6_burnt_0 : decode cX6_burnt 0 = .ok (.aload_n 0, 1) := dk_42 (dk_at dksX6_burnt_0 0 rfl rfl)
theorem dX6_burnt_1 : decode cX6_burnt 1 = .ok (.aload_n 0, 1) := dk_42 (dk_at dksX6_burnt_0 1 rfl rfl)
theorem dX6_burnt_2 : decode cX6_burnt 2 = .ok (.getfield 7, 3) := dk_180 0 7 (dk_at dksX6_burnt_0 2 rfl rfl)
theorem dX6_burnt_5 : decode cX6_burnt 5 = .ok (.iconst 1, 1) := dk_4 (dk_at dksX6_burnt_0 5 rfl rfl)
theorem dX6_burnt_6 : decode cX6_burnt 6 = .ok (.iaload, 1) := dk_46 (dk_at dksX6_burnt_0 6 rfl rfl)
theorem dX6_burnt_7 : decode cX6_burnt 7 = .ok (.ifCond .ne 7, 3) := dk_154 0 7 (dk_at dksX6_burnt_0 7 rfl rfl)
theorem dX6_burnt_10 : decode cX6_burnt 10 = .ok (.iconst 1, 1) := dk_4 (dk_at dksX6_burnt_0 10 rfl rfl)
theorem dX6_burnt_11 : decode cX6_burnt 11 = .ok (.goto 4, 3) := dk_167 0 4 (dk_at dksX6_burnt_0 11 rfl rfl)
theorem dX6_burnt_14 : decode cX6_burnt 14 = .ok (.iconst 0, 1) := dk_3 (dk_at dksX6_burnt_0 14 rfl rfl)
theorem dX6_burnt_15 : decode cX6_burnt 15 = .ok (.putfield 25, 3) := dk_181 0 25 (dk_at dksX6_burnt_0 15 rfl rfl)
theorem dX6_burnt_18 : decode cX6_burnt 18 = .ok (.aload_n 0, 1) := dk_42 (dk_at dksX6_burnt_0 18 rfl rfl)
theorem dX6_burnt_19 : decode cX6_burnt 19 = .ok (.getfield 25, 3) := dk_180 0 25 (dk_at dksX6_burnt_0 19 rfl rfl)
theorem dX6_burnt_22 : decode cX6_burnt 22 = .ok (.ifCond .le 7, 3) := dk_158 0 7 (dk_at dksX6_burnt_1 0 rfl rfl)
theorem dX6_burnt_25 : decode cX6_burnt 25 = .ok (.fconst 0, 1) := dk_11 (dk_at dksX6_burnt_1 3 rfl rfl)
theorem dX6_burnt_26 : decode cX6_burnt 26 = .ok (.goto 17, 3) := dk_167 0 17 (dk_at dksX6_burnt_1 4 rfl rfl)
theorem dX6_burnt_29 : decode cX6_burnt 29 = .ok (.aload_n 0, 1) := dk_42 (dk_at dksX6_burnt_1 7 rfl rfl)
theorem dX6_burnt_30 : decode cX6_burnt 30 = .ok (.iconst 3, 1) := dk_6 (dk_at dksX6_burnt_1 8 rfl rfl)
theorem dX6_burnt_31 : decode cX6_burnt 31 = .ok (.invokevirtual 124, 3) := dk_182 0 124 (dk_at dksX6_burnt_1 9 rfl rfl)
theorem dX6_burnt_34 : decode cX6_burnt 34 = .ok (.i2f, 1) := dk_134 (dk_at dksX6_burnt_1 12 rfl rfl)
theorem dX6_burnt_35 : decode cX6_burnt 35 = .ok (.aload_n 0, 1) := dk_42 (dk_at dksX6_burnt_1 13 rfl rfl)
theorem dX6_burnt_36 : decode cX6_burnt 36 = .ok (.getfield 7, 3) := dk_180 0 7 (dk_at dksX6_burnt_1 14 rfl rfl)
theorem dX6_burnt_39 : decode cX6_burnt 39 = .ok (.iconst 1, 1) := dk_4 (dk_at dksX6_burnt_1 17 rfl rfl)
theorem dX6_burnt_40 : decode cX6_burnt 40 = .ok (.iaload, 1) := dk_46 (dk_at dksX6_burnt_1 18 rfl rfl)
theorem dX6_burnt_41 : decode cX6_burnt 41 = .ok (.i2f, 1) := dk_134 (dk_at dksX6_burnt_1 19 rfl rfl)
theorem dX6_burnt_42 : decode cX6_burnt 42 = .ok (.fdiv, 1) := dk_110 (dk_at dksX6_burnt_1 20 rfl rfl)
theorem dX6_burnt_43 : decode cX6_burnt 43 = .ok (.freturn, 1) := dk_174 (dk_at dksX6_burnt_1 21 rfl rfl)
abbrev kX6_burnt : KX := (cX6_burnt, "TissueBalloonsModel", "burnt", 1, some .float, [], 2)
abbrev cX6_undo : ByteArray := prog_14_method_88_code
def yX6_undo : MethodName := ⟨RX6, "undo", "()I"⟩
def dkwX6_undo_2 : List UInt8 := [42, 180, 0, 29, 172]
abbrev dktX6_undo_2 : List UInt8 := dkwX6_undo_2 ++ []
def dkwX6_undo_1 : List UInt8 := [100, 181, 0, 29, 42, 180, 0, 22, 17, 0, 222, 42, 180, 0, 29, 104, 42, 180, 0, 7, 3, 184, 0, 79]
abbrev dktX6_undo_1 : List UInt8 := dkwX6_undo_1 ++ dktX6_undo_2
def dkwX6_undo_0 : List UInt8 := [42, 3, 181, 0, 25, 42, 180, 0, 29, 154, 0, 9, 42, 4, 182, 0, 75, 172, 42, 89, 180, 0, 29, 4]
abbrev dktX6_undo_0 : List UInt8 := dkwX6_undo_0 ++ dktX6_undo_1
theorem dksX6_undo_0 : cX6_undo.data.toList.drop 0 = dktX6_undo_0 := by decide +kernel
theorem dksX6_undo_1 : cX6_undo.data.toList.drop 24 = dktX6_undo_1 := dk_seg dksX6_undo_0 24 rfl rfl
theorem dksX6_undo_2 : cX6_undo.data.toList.drop 48 = dktX6_undo_2 := dk_seg dksX6_undo_1 24 rfl rfl
theorem dX6_undo_0 : decode cX6_undo 0 = .ok (.aload_n 0, 1) := dk_42 (dk_at dksX6_undo_0 0 rfl rfl)
theorem dX6_undo_1 : decode cX6_undo 1 = .ok (.iconst 0, 1) := dk_3 (dk_at dksX6_undo_0 1 rfl rfl)
theorem dX6_undo_2 : decode cX6_undo 2 = .ok (.putfield 25, 3) := dk_181 0 25 (dk_at dksX6_undo_0 2 rfl rfl)
theorem dX6_undo_5 : decode cX6_undo 5 = .ok (.aload_n 0, 1) := dk_42 (dk_at dksX6_undo_0 5 rfl rfl)
theorem dX6_undo_6 : decode cX6_undo 6 = .ok (.getfield 29, 3) := dk_180 0 29 (dk_at dksX6_undo_0 6 rfl rfl)
theorem dX6_undo_9 : decode cX6_undo 9 = .ok (.ifCond .ne 9, 3) := dk_154 0 9 (dk_at dksX6_undo_0 9 rfl rfl)
theorem dX6_undo_12 : decode cX6_undo 12 = .ok (.aload_n 0, 1) := dk_42 (dk_at dksX6_undo_0 12 rfl rfl)
theorem dX6_undo_13 : decode cX6_undo 13 = .ok (.iconst 1, 1) := dk_4 (dk_at dksX6_undo_0 13 rfl rfl)
theorem dX6_undo_14 : decode cX6_undo 14 = .ok (.invokevirtual 75, 3) := dk_182 0 75 (dk_at dksX6_undo_0 14 rfl rfl)
theorem dX6_undo_17 : decode cX6_undo 17 = .ok (.ireturn, 1) := dk_172 (dk_at dksX6_undo_0 17 rfl rfl)
theorem dX6_undo_18 : decode cX6_undo 18 = .ok (.aload_n 0, 1) := dk_42 (dk_at dksX6_undo_0 18 rfl rfl)
theorem dX6_undo_19 : decode cX6_undo 19 = .ok (.dup, 1) := dk_89 (dk_at dksX6_undo_0 19 rfl rfl)
theorem dX6_undo_20 : decode cX6_undo 20 = .ok (.getfield 29, 3) := dk_180 0 29 (dk_at dksX6_undo_0 20 rfl rfl)
theorem dX6_undo_23 : decode cX6_undo 23 = .ok (.iconst 1, 1) := dk_4 (dk_at dksX6_undo_0 23 rfl rfl)
theorem dX6_undo_24 : decode cX6_undo 24 = .ok (.isub, 1) := dk_100 (dk_at dksX6_undo_1 0 rfl rfl)
theorem dX6_undo_25 : decode cX6_undo 25 = .ok (.putfield 29, 3) := dk_181 0 29 (dk_at dksX6_undo_1 1 rfl rfl)
theorem dX6_undo_28 : decode cX6_undo 28 = .ok (.aload_n 0, 1) := dk_42 (dk_at dksX6_undo_1 4 rfl rfl)
theorem dX6_undo_29 : decode cX6_undo 29 = .ok (.getfield 22, 3) := dk_180 0 22 (dk_at dksX6_undo_1 5 rfl rfl)
theorem dX6_undo_32 : decode cX6_undo 32 = .ok (.sipush 222, 3) := dk_17 0 222 (dk_at dksX6_undo_1 8 rfl rfl)
theorem dX6_undo_35 : decode cX6_undo 35 = .ok (.aload_n 0, 1) := dk_42 (dk_at dksX6_undo_1 11 rfl rfl)
theorem dX6_undo_36 : decode cX6_undo 36 = .ok (.getfield 29, 3) := dk_180 0 29 (dk_at dksX6_undo_1 12 rfl rfl)
theorem dX6_undo_39 : decode cX6_undo 39 = .ok (.imul, 1) := dk_104 (dk_at dksX6_undo_1 15 rfl rfl)
theorem dX6_undo_40 : decode cX6_undo 40 = .ok (.aload_n 0, 1) := dk_42 (dk_at dksX6_undo_1 16 rfl rfl)
theorem dX6_undo_41 : decode cX6_undo 41 = .ok (.getfield 7, 3) := dk_180 0 7 (dk_at dksX6_undo_1 17 rfl rfl)
theorem dX6_undo_44 : decode cX6_undo 44 = .ok (.iconst 0, 1) := dk_3 (dk_at dksX6_undo_1 20 rfl rfl)
theorem dX6_undo_45 : decode cX6_undo 45 = .ok (.invokestatic 79, 3) := dk_184 0 79 (dk_at dksX6_undo_1 21 rfl rfl)
theorem dX6_undo_48 : decode cX6_undo 48 = .ok (.aload_n 0, 1) := dk_42 (dk_at dksX6_undo_2 0 rfl rfl)
theorem dX6_undo_49 : decode cX6_undo 49 = .ok (.getfield 29, 3) := dk_180 0 29 (dk_at dksX6_undo_2 1 rfl rfl)
theorem dX6_undo_52 : decode cX6_undo 52 = .ok (.ireturn, 1) := dk_172 (dk_at dksX6_undo_2 4 rfl rfl)
abbrev kX6_undo : KX := (cX6_undo, "TissueBalloonsModel", "undo", 1, some .int, [], 1)
abbrev cX6_save : ByteArray := prog_14_method_89_code
def yX6_save : MethodName := ⟨RX6, "save", "()I"⟩
def dkwX6_save_1 : List UInt8 := [180, 0, 7, 5, 46, 172]
abbrev dktX6_save_1 : List UInt8 := dkwX6_save_1 ++ []
def dkwX6_save_0 : List UInt8 := [42, 3, 181, 0, 25, 42, 180, 0, 7, 3, 42, 180, 0, 19, 3, 184, 0, 79, 42, 4, 181, 0, 44, 42]
abbrev dktX6_save_0 : List UInt8 := dkwX6_save_0 ++ dktX6_save_1
theorem dksX6_save_0 : cX6_save.data.toList.drop 0 = dktX6_save_0 := by decide +kernel
theorem dksX6_save_1 : cX6_save.data.toList.drop 24 = dktX6_save_1 := dk_seg dksX6_save_0 24 rfl rfl
theorem dX6_save_0 : decode cX6_save 0 = .ok (.aload_n 0, 1) := dk_42 (dk_at dksX6_save_0 0 rfl rfl)
theorem dX6_save_1 : decode cX6_save 1 = .ok (.iconst 0, 1) := dk_3 (dk_at dksX6_save_0 1 rfl rfl)
theorem dX6_save_2 : decode cX6_save 2 = .ok (.putfield 25, 3) := dk_181 0 25 (dk_at dksX6_save_0 2 rfl rfl)
theorem dX6_save_5 : decode cX6_save 5 = .ok (.aload_n 0, 1) := dk_42 (dk_at dksX6_save_0 5 rfl rfl)
theorem dX6_save_6 : decode cX6_save 6 = .ok (.getfield 7, 3) := dk_180 0 7 (dk_at dksX6_save_0 6 rfl rfl)
theorem dX6_save_9 : decode cX6_save 9 = .ok (.iconst 0, 1) := dk_3 (dk_at dksX6_save_0 9 rfl rfl)
theorem dX6_save_10 : decode cX6_save 10 = .ok (.aload_n 0, 1) := dk_42 (dk_at dksX6_save_0 10 rfl rfl)
theorem dX6_save_11 : decode cX6_save 11 = .ok (.getfield 19, 3) := dk_180 0 19 (dk_at dksX6_save_0 11 rfl rfl)
theorem dX6_save_14 : decode cX6_save 14 = .ok (.iconst 0, 1) := dk_3 (dk_at dksX6_save_0 14 rfl rfl)
theorem dX6_save_15 : decode cX6_save 15 = .ok (.invokestatic 79, 3) := dk_184 0 79 (dk_at dksX6_save_0 15 rfl rfl)
theorem dX6_save_18 : decode cX6_save 18 = .ok (.aload_n 0, 1) := dk_42 (dk_at dksX6_save_0 18 rfl rfl)
theorem dX6_save_19 : decode cX6_save 19 = .ok (.iconst 1, 1) := dk_4 (dk_at dksX6_save_0 19 rfl rfl)
theorem dX6_save_20 : decode cX6_save 20 = .ok (.putfield 44, 3) := dk_181 0 44 (dk_at dksX6_save_0 20 rfl rfl)
theorem dX6_save_23 : decode cX6_save 23 = .ok (.aload_n 0, 1) := dk_42 (dk_at dksX6_save_0 23 rfl rfl)
theorem dX6_save_24 : decode cX6_save 24 = .ok (.getfield 7, 3) := dk_180 0 7 (dk_at dksX6_save_1 0 rfl rfl)
theorem dX6_save_27 : decode cX6_save 27 = .ok (.iconst 2, 1) := dk_5 (dk_at dksX6_save_1 3 rfl rfl)
theorem dX6_save_28 : decode cX6_save 28 = .ok (.iaload, 1) := dk_46 (dk_at dksX6_save_1 4 rfl rfl)
theorem dX6_save_29 : decode cX6_save 29 = .ok (.ireturn, 1) := dk_172 (dk_at dksX6_save_1 5 rfl rfl)
abbrev kX6_save : KX := (cX6_save, "TissueBalloonsModel", "save", 1, some .int, [], 1)
abbrev cX6_restore : ByteArray := prog_14_method_90_code
def yX6_restore : MethodName := ⟨RX6, "restore", "()I"⟩
def dkwX6_restore_1 : List UInt8 := [180, 0, 7, 3, 184, 0, 79, 42, 3, 181, 0, 29, 42, 180, 0, 7, 5, 46, 172]
abbrev dktX6_restore_1 : List UInt8 := dkwX6_restore_1 ++ []
def dkwX6_restore_0 : List UInt8 := [42, 3, 181, 0, 25, 42, 180, 0, 44, 154, 0, 9, 42, 4, 182, 0, 75, 172, 42, 180, 0, 19, 3, 42]
abbrev dktX6_restore_0 : List UInt8 := dkwX6_restore_0 ++ dktX6_restore_1
theorem dksX6_restore_0 : cX6_restore.data.toList.drop 0 = dktX6_restore_0 := by decide +kernel
theorem dksX6_restore_1 : cX6_restore.data.toList.drop 24 = dktX6_restore_1 := dk_seg dksX6_restore_0 24 rfl rfl
theorem dX6_restore_0 : decode cX6_restore 0 = .ok (.aload_n 0, 1) := dk_42 (dk_at dksX6_restore_0 0 rfl rfl)
theorem dX6_restore_1 : decode cX6_restore 1 = .ok (.iconst 0, 1) := dk_3 (dk_at dksX6_restore_0 1 rfl rfl)
theorem dX6_restore_2 : decode cX6_restore 2 = .ok (.putfield 25, 3) := dk_181 0 25 (dk_at dksX6_restore_0 2 rfl rfl)
theorem dX6_restore_5 : decode cX6_restore 5 = .ok (.aload_n 0, 1) := dk_42 (dk_at dksX6_restore_0 5 rfl rfl)
theorem dX6_restore_6 : decode cX6_restore 6 = .ok (.getfield 44, 3) := dk_180 0 44 (dk_at dksX6_restore_0 6 rfl rfl)
theorem dX6_restore_9 : decode cX6_restore 9 = .ok (.ifCond .ne 9, 3) := dk_154 0 9 (dk_at dksX6_restore_0 9 rfl rfl)
theorem dX6_restore_12 : decode cX6_restore 12 = .ok (.aload_n 0, 1) := dk_42 (dk_at dksX6_restore_0 12 rfl rfl)
theorem dX6_restore_13 : decode cX6_restore 13 = .ok (.iconst 1, 1) := dk_4 (dk_at dksX6_restore_0 13 rfl rfl)
theorem dX6_restore_14 : decode cX6_restore 14 = .ok (.invokevirtual 75, 3) := dk_182 0 75 (dk_at dksX6_restore_0 14 rfl rfl)
theorem dX6_restore_17 : decode cX6_restore 17 = .ok (.ireturn, 1) := dk_172 (dk_at dksX6_restore_0 17 rfl rfl)
theorem dX6_restore_18 : decode cX6_restore 18 = .ok (.aload_n 0, 1) := dk_42 (dk_at dksX6_restore_0 18 rfl rfl)
theorem dX6_restore_19 : decode cX6_restore 19 = .ok (.getfield 19, 3) := dk_180 0 19 (dk_at dksX6_restore_0 19 rfl rfl)
theorem dX6_restore_22 : decode cX6_restore 22 = .ok (.iconst 0, 1) := dk_3 (dk_at dksX6_restore_0 22 rfl rfl)
theorem dX6_restore_23 : decode cX6_restore 23 = .ok (.aload_n 0, 1) := dk_42 (dk_at dksX6_restore_0 23 rfl rfl)
theorem dX6_restore_24 : decode cX6_restore 24 = .ok (.getfield 7, 3) := dk_180 0 7 (dk_at dksX6_restore_1 0 rfl rfl)
theorem dX6_restore_27 : decode cX6_restore 27 = .ok (.iconst 0, 1) := dk_3 (dk_at dksX6_restore_1 3 rfl rfl)
theorem dX6_restore_28 : decode cX6_restore 28 = .ok (.invokestatic 79, 3) := dk_184 0 79 (dk_at dksX6_restore_1 4 rfl rfl)
theorem dX6_restore_31 : decode cX6_restore 31 = .ok (.aload_n 0, 1) := dk_42 (dk_at dksX6_restore_1 7 rfl rfl)
theorem dX6_restore_32 : decode cX6_restore 32 = .ok (.iconst 0, 1) := dk_3 (dk_at dksX6_restore_1 8 rfl rfl)
theorem dX6_restore_33 : decode cX6_restore 33 = .ok (.putfield 29, 3) := dk_181 0 29 (dk_at dksX6_restore_1 9 rfl rfl)
theorem dX6_restore_36 : decode cX6_restore 36 = .ok (.aload_n 0, 1) := dk_42 (dk_at dksX6_restore_1 12 rfl rfl)
theorem dX6_restore_37 : decode cX6_restore 37 = .ok (.getfield 7, 3) := dk_180 0 7 (dk_at dksX6_restore_1 13 rfl rfl)
theorem dX6_restore_40 : decode cX6_restore 40 = .ok (.iconst 2, 1) := dk_5 (dk_at dksX6_restore_1 16 rfl rfl)
theorem dX6_restore_41 : decode cX6_restore 41 = .ok (.iaload, 1) := dk_46 (dk_at dksX6_restore_1 17 rfl rfl)
theorem dX6_restore_42 : decode cX6_restore 42 = .ok (.ireturn, 1) := dk_172 (dk_at dksX6_restore_1 18 rfl rfl)
abbrev kX6_restore : KX := (cX6_restore, "TissueBalloonsModel", "restore", 1, some .int, [], 1)
