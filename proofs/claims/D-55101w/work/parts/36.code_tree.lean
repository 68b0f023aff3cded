/-! code rows of J1 J34:init,getKey,getValue J35 X8 X10 X11 (claim/names), and their K -/
set_option maxRecDepth 100000
abbrev cJ1_init : ByteArray := prog_75_method_1_code
def yJ1_init : MethodName := ⟨RJ1, "<init>", "()V"⟩
def dkwJ1_init_0 : List UInt8 := [42, 183, 0, 1, 42, 3, 181, 0, 7, 42, 3, 181, 0, 13, 42, 1, 181, 0, 16, 177]
abbrev dktJ1_init_0 : List UInt8 := dkwJ1_init_0 ++ []
theorem dksJ1_init_0 : cJ1_init.data.toList.drop 0 = dktJ1_init_0 := by decide +kernel
theorem dJ1_init_0 : decode cJ1_init 0 = .ok (.aload_n 0, 1) := dk_42 (dk_at dksJ1_init_0 0 rfl rfl)
theorem dJ1_init_1 : decode cJ1_init 1 = .ok (.invokespecial 1, 3) := dk_183 0 1 (dk_at dksJ1_init_0 1 rfl rfl)
theorem dJ1_init_4 : decode cJ1_init 4 = .ok (.aload_n 0, 1) := dk_42 (dk_at dksJ1_init_0 4 rfl rfl)
theorem dJ1_init_5 : decode cJ1_init 5 = .ok (.iconst 0, 1) := dk_3 (dk_at dksJ1_init_0 5 rfl rfl)
theorem dJ1_init_6 : decode cJ1_init 6 = .ok (.putfield 7, 3) := dk_181 0 7 (dk_at dksJ1_init_0 6 rfl rfl)
theorem dJ1_init_9 : decode cJ1_init 9 = .ok (.aload_n 0, 1) := dk_42 (dk_at dksJ1_init_0 9 rfl rfl)
theorem dJ1_init_10 : decode cJ1_init 10 = .ok (.iconst 0, 1) := dk_3 (dk_at dksJ1_init_0 10 rfl rfl)
theorem dJ1_init_11 : decode cJ1_init 11 = .ok (.putfield 13, 3) := dk_181 0 13 (dk_at dksJ1_init_0 11 rfl rfl)
theorem dJ1_init_14 : decode cJ1_init 14 = .ok (.aload_n 0, 1) := dk_42 (dk_at dksJ1_init_0 14 rfl rfl)
theorem dJ1_init_15 : decode cJ1_init 15 = .ok (.aconst_null, 1) := dk_1 (dk_at dksJ1_init_0 15 rfl rfl)
theorem dJ1_init_16 : decode cJ1_init 16 = .ok (.putfield 16, 3) := dk_181 0 16 (dk_at dksJ1_init_0 16 rfl rfl)
theorem dJ1_init_19 : decode cJ1_init 19 = .ok (.return_, 1) := dk_177 (dk_at dksJ1_init_0 19 rfl rfl)
abbrev kJ1_init : KX := (cJ1_init, "java/util/TreeMap", "<init>", 1, none, [], 2)
abbrev cJ1_clear : ByteArray := prog_75_method_35_code
def yJ1_clear : MethodName := ⟨RJ1, "clear", "()V"⟩
def dkwJ1_clear_0 : List UInt8 := [42, 89, 180, 0, 13, 4, 96, 181, 0, 13, 42, 3, 181, 0, 7, 42, 1, 181, 0, 101, 177]
abbrev dktJ1_clear_0 : List UInt8 := dkwJ1_clear_0 ++ []
theorem dksJ1_clear_0 : cJ1_clear.data.toList.drop 0 = dktJ1_clear_0 := by decide +kernel
theorem dJ1_clear_0 : decode cJ1_clear 0 = .ok (.aload_n 0, 1) := dk_42 (dk_at dksJ1_clear_0 0 rfl rfl)
theorem dJ1_clear_1 : decode cJ1_clear 1 = .ok (.dup, 1) := dk_89 (dk_at dksJ1_clear_0 1 rfl rfl)
theorem dJ1_clear_2 : decode cJ1_clear 2 = .ok (.getfield 13, 3) := dk_180 0 13 (dk_at dksJ1_clear_0 2 rfl rfl)
theorem dJ1_clear_5 : decode cJ1_clear 5 = .ok (.iconst 1, 1) := dk_4 (dk_at dksJ1_clear_0 5 rfl rfl)
theorem dJ1_clear_6 : decode cJ1_clear 6 = .ok (.iadd, 1) := dk_96 (dk_at dksJ1_clear_0 6 rfl rfl)
theorem dJ1_clear_7 : decode cJ1_clear 7 = .ok (.putfield 13, 3) := dk_181 0 13 (dk_at dksJ1_clear_0 7 rfl rfl)
theorem dJ1_clear_10 : decode cJ1_clear 10 = .ok (.aload_n 0, 1) := dk_42 (dk_at dksJ1_clear_0 10 rfl rfl)
theorem dJ1_clear_11 : decode cJ1_clear 11 = .ok (.iconst 0, 1) := dk_3 (dk_at dksJ1_clear_0 11 rfl rfl)
theorem dJ1_clear_12 : decode cJ1_clear 12 = .ok (.putfield 7, 3) := dk_181 0 7 (dk_at dksJ1_clear_0 12 rfl rfl)
theorem dJ1_clear_15 : decode cJ1_clear 15 = .ok (.aload_n 0, 1) := dk_42 (dk_at dksJ1_clear_0 15 rfl rfl)
theorem dJ1_clear_16 : decode cJ1_clear 16 = .ok (.aconst_null, 1) := dk_1 (dk_at dksJ1_clear_0 16 rfl rfl)
theorem dJ1_clear_17 : decode cJ1_clear 17 = .ok (.putfield 101, 3) := dk_181 0 101 (dk_at dksJ1_clear_0 17 rfl rfl)
theorem dJ1_clear_20 : decode cJ1_clear 20 = .ok (.return_, 1) := dk_177 (dk_at dksJ1_clear_0 20 rfl rfl)
abbrev kJ1_clear : KX := (cJ1_clear, "java/util/TreeMap", "clear", 1, none, [], 0)
abbrev cJ1_entrySet : ByteArray := prog_75_method_53_code
def yJ1_entrySet : MethodName := ⟨RJ1, "entrySet", "()Ljava/util/Set;"⟩
def dkwJ1_entrySet_1 : List UInt8 := [181, 0, 188, 176]
abbrev dktJ1_entrySet_1 : List UInt8 := dkwJ1_entrySet_1 ++ []
def dkwJ1_entrySet_0 : List UInt8 := [42, 180, 0, 188, 76, 43, 198, 0, 7, 43, 167, 0, 16, 42, 187, 0, 242, 89, 42, 183, 0, 244, 90]
abbrev dktJ1_entrySet_0 : List UInt8 := dkwJ1_entrySet_0 ++ dktJ1_entrySet_1
theorem dksJ1_entrySet_0 : cJ1_entrySet.data.toList.drop 0 = dktJ1_entrySet_0 := by decide +kernel
theorem dksJ1_entrySet_1 : cJ1_entrySet.data.toList.drop 23 = dktJ1_entrySet_1 := dk_seg dksJ1_entrySet_0 23 rfl rfl
theorem dJ1_entrySet_0 : decode cJ1_entrySet 0 = .ok (.aload_n 0, 1) := dk_42 (dk_at dksJ1_entrySet_0 0 rfl rfl)
theorem dJ1_entrySet_1 : decode cJ1_entrySet 1 = .ok (.getfield 188, 3) := dk_180 0 188 (dk_at dksJ1_entrySet_0 1 rfl rfl)
theorem dJ1_entrySet_4 : decode cJ1_entrySet 4 = .ok (.astore_n 1, 1) := dk_76 (dk_at dksJ1_entrySet_0 4 rfl rfl)
theorem dJ1_entrySet_5 : decode cJ1_entrySet 5 = .ok (.aload_n 1, 1) := dk_43 (dk_at dksJ1_entrySet_0 5 rfl rfl)
theorem dJ1_entrySet_6 : decode cJ1_entrySet 6 = .ok (.ifnull 7, 3) := dk_198 0 7 (dk_at dksJ1_entrySet_0 6 rfl rfl)
theorem dJ1_entrySet_9 : decode cJ1_entrySet 9 = .ok (.aload_n 1, 1) := dk_43 (dk_at dksJ1_entrySet_0 9 rfl rfl)
theorem dJ1_entrySet_10 : decode cJ1_entrySet 10 = .ok (.goto 16, 3) := dk_167 0 16 (dk_at dksJ1_entrySet_0 10 rfl rfl)
theorem dJ1_entrySet_13 : decode cJ1_entrySet 13 = .ok (.aload_n 0, 1) := dk_42 (dk_at dksJ1_entrySet_0 13 rfl rfl)
theorem dJ1_entrySet_14 : decode cJ1_entrySet 14 = .ok (.new 242, 3) := dk_187 0 242 (dk_at dksJ1_entrySet_0 14 rfl rfl)
theorem dJ1_entrySet_17 : decode cJ1_entrySet 17 = .ok (.dup, 1) := dk_89 (dk_at dksJ1_entrySet_0 17 rfl rfl)
theorem dJ1_entrySet_18 : decode cJ1_entrySet 18 = .ok (.aload_n 0, 1) := dk_42 (dk_at dksJ1_entrySet_0 18 rfl rfl)
theorem dJ1_entrySet_19 : decode cJ1_entrySet 19 = .ok (.invokespecial 244, 3) := dk_183 0 244 (dk_at dksJ1_entrySet_0 19 rfl rfl)
theorem dJ1_entrySet_22 : decode cJ1_entrySet 22 = .ok (.dup_x1, 1) := dk_90 (dk_at dksJ1_entrySet_0 22 rfl rfl)
theorem dJ1_entrySet_23 : decode cJ1_entrySet 23 = .ok (.putfield 188, 3) := dk_181 0 188 (dk_at dksJ1_entrySet_1 0 rfl rfl)
theorem dJ1_entrySet_26 : decode cJ1_entrySet 26 = .ok (.areturn, 1) := dk_176 (dk_at dksJ1_entrySet_1 3 rfl rfl)
abbrev kJ1_entrySet : KX := (cJ1_entrySet, "java/util/TreeMap", "entrySet", 2, some (.object "java/util/Set"), [], 4)
abbrev cJ1_getFirstEntry : ByteArray := prog_75_method_72_code
def yJ1_getFirstEntry : MethodName := ⟨RJ1, "getFirstEntry", "()Ljava/util/TreeMap$Entry;"⟩
def dkwJ1_getFirstEntry_1 : List UInt8 := [43, 176]
abbrev dktJ1_getFirstEntry_1 : List UInt8 := dkwJ1_getFirstEntry_1 ++ []
def dkwJ1_getFirstEntry_0 : List UInt8 := [42, 180, 0, 101, 76, 43, 198, 0, 18, 43, 180, 0, 111, 198, 0, 11, 43, 180, 0, 111, 76, 167, 255, 244]
abbrev dktJ1_getFirstEntry_0 : List UInt8 := dkwJ1_getFirstEntry_0 ++ dktJ1_getFirstEntry_1
theorem dksJ1_getFirstEntry_0 : cJ1_getFirstEntry.data.toList.drop 0 = dktJ1_getFirstEntry_0 := by decide +kernel
theorem dksJ1_getFirstEntry_1 : cJ1_getFirstEntry.data.toList.drop 24 = dktJ1_getFirstEntry_1 := dk_seg dksJ1_getFirstEntry_0 24 rfl rfl
theorem dJ1_getFirstEntry_0 : decode cJ1_getFirstEntry 0 = .ok (.aload_n 0, 1) := dk_42 (dk_at dksJ1_getFirstEntry_0 0 rfl rfl)
theorem dJ1_getFirstEntry_1 : decode cJ1_getFirstEntry 1 = .ok (.getfield 101, 3) := dk_180 0 101 (dk_at dksJ1_getFirstEntry_0 1 rfl rfl)
theorem dJ1_getFirstEntry_4 : decode cJ1_getFirstEntry 4 = .ok (.astore_n 1, 1) := dk_76 (dk_at dksJ1_getFirstEntry_0 4 rfl rfl)
theorem dJ1_getFirstEntry_5 : decode cJ1_getFirstEntry 5 = .ok (.aload_n 1, 1) := dk_43 (dk_at dksJ1_getFirstEntry_0 5 rfl rfl)
theorem dJ1_getFirstEntry_6 : decode cJ1_getFirstEntry 6 = .ok (.ifnull 18, 3) := dk_198 0 18 (dk_at dksJ1_getFirstEntry_0 6 rfl rfl)
theorem dJ1_getFirstEntry_9 : decode cJ1_getFirstEntry 9 = .ok (.aload_n 1, 1) := dk_43 (dk_at dksJ1_getFirstEntry_0 9 rfl rfl)
theorem dJ1_getFirstEntry_10 : decode cJ1_getFirstEntry 10 = .ok (.getfield 111, 3) := dk_180 0 111 (dk_at dksJ1_getFirstEntry_0 10 rfl rfl)
theorem dJ1_getFirstEntry_13 : decode cJ1_getFirstEntry 13 = .ok (.ifnull 11, 3) := dk_198 0 11 (dk_at dksJ1_getFirstEntry_0 13 rfl rfl)
theorem dJ1_getFirstEntry_16 : decode cJ1_getFirstEntry 16 = .ok (.aload_n 1, 1) := dk_43 (dk_at dksJ1_getFirstEntry_0 16 rfl rfl)
theorem dJ1_getFirstEntry_17 : decode cJ1_getFirstEntry 17 = .ok (.getfield 111, 3) := dk_180 0 111 (dk_at dksJ1_getFirstEntry_0 17 rfl rfl)
theorem dJ1_getFirstEntry_20 : decode cJ1_getFirstEntry 20 = .ok (.astore_n 1, 1) := dk_76 (dk_at dksJ1_getFirstEntry_0 20 rfl rfl)
theorem dJ1_getFirstEntry_21 : decode cJ1_getFirstEntry 21 = .ok (.goto (-12), 3) := dk_167 255 244 (dk_at dksJ1_getFirstEntry_0 21 rfl rfl)
theorem dJ1_getFirstEntry_24 : decode cJ1_getFirstEntry 24 = .ok (.aload_n 1, 1) := dk_43 (dk_at dksJ1_getFirstEntry_1 0 rfl rfl)
theorem dJ1_getFirstEntry_25 : decode cJ1_getFirstEntry 25 = .ok (.areturn, 1) := dk_176 (dk_at dksJ1_getFirstEntry_1 1 rfl rfl)
abbrev kJ1_getFirstEntry : KX := (cJ1_getFirstEntry, "java/util/TreeMap", "getFirstEntry", 2, some (.object "java/util/TreeMap$Entry"), [], 0)
abbrev cJ1_getCeilingEntry : ByteArray := prog_75_method_17_code
def yJ1_getCeilingEntry : MethodName := ⟨RJ1, "getCeilingEntry", "(Ljava/lang/Object;)Ljava/util/TreeMap$Entry;"⟩
def dkwJ1_getCeilingEntry_4 : List UInt8 := [167, 255, 230, 25, 4, 176, 44, 176, 167, 255, 159, 1, 176]
abbrev dktJ1_getCeilingEntry_4 : List UInt8 := dkwJ1_getCeilingEntry_4 ++ []
def dkwJ1_getCeilingEntry_3 : List UInt8 := [198, 0, 27, 25, 5, 25, 4, 180, 0, 114, 166, 0, 17, 25, 4, 58, 5, 25, 4, 180, 0, 124, 58, 4]
abbrev dktJ1_getCeilingEntry_3 : List UInt8 := dkwJ1_getCeilingEntry_3 ++ dktJ1_getCeilingEntry_4
def dkwJ1_getCeilingEntry_2 : List UInt8 := [198, 0, 11, 44, 180, 0, 114, 77, 167, 0, 46, 44, 180, 0, 124, 58, 4, 44, 58, 5, 25, 4]
abbrev dktJ1_getCeilingEntry_2 : List UInt8 := dkwJ1_getCeilingEntry_2 ++ dktJ1_getCeilingEntry_3
def dkwJ1_getCeilingEntry_1 : List UInt8 := [180, 0, 111, 198, 0, 11, 44, 180, 0, 111, 77, 167, 0, 67, 44, 176, 29, 158, 0, 59, 44, 180, 0, 114]
abbrev dktJ1_getCeilingEntry_1 : List UInt8 := dkwJ1_getCeilingEntry_1 ++ dktJ1_getCeilingEntry_2
def dkwJ1_getCeilingEntry_0 : List UInt8 := [42, 180, 0, 101, 77, 44, 198, 0, 99, 42, 43, 44, 180, 0, 105, 182, 0, 123, 62, 29, 156, 0, 20, 44]
abbrev dktJ1_getCeilingEntry_0 : List UInt8 := dkwJ1_getCeilingEntry_0 ++ dktJ1_getCeilingEntry_1
theorem dksJ1_getCeilingEntry_0 : cJ1_getCeilingEntry.data.toList.drop 0 = dktJ1_getCeilingEntry_0 := by decide +kernel
theorem dksJ1_getCeilingEntry_1 : cJ1_getCeilingEntry.data.toList.drop 24 = dktJ1_getCeilingEntry_1 := dk_seg dksJ1_getCeilingEntry_0 24 rfl rfl
theorem dksJ1_getCeilingEntry_2 : cJ1_getCeilingEntry.data.toList.drop 48 = dktJ1_getCeilingEntry_2 := dk_seg dksJ1_getCeilingEntry_1 24 rfl rfl
theorem dksJ1_getCeilingEntry_3 : cJ1_getCeilingEntry.data.toList.drop 70 = dktJ1_getCeilingEntry_3 := dk_seg dksJ1_getCeilingEntry_2 22 rfl rfl
theorem dksJ1_getCeilingEntry_4 : cJ1_getCeilingEntry.data.toList.drop 94 = dktJ1_getCeilingEntry_4 := dk_seg dksJ1_getCeilingEntry_3 24 rfl rfl
theorem dJ1_getCeilingEntry_0 : decode cJ1_getCeilingEntry 0 = .ok (.aload_n 0, 1) := dk_42 (dk_at dksJ1_getCeilingEntry_0 0 rfl rfl)
theorem dJ1_getCeilingEntry_1 : decode cJ1_getCeilingEntry 1 = .ok (.getfield 101, 3) := dk_180 0 101 (dk_at dksJ1_getCeilingEntry_0 1 rfl rfl)
theorem dJ1_getCeilingEntry_4 : decode cJ1_getCeilingEntry 4 = .ok (.astore_n 2, 1) := dk_77 (dk_at dksJ1_getCeilingEntry_0 4 rfl rfl)
theorem dJ1_getCeilingEntry_5 : decode cJ1_getCeilingEntry 5 = .ok (.aload_n 2, 1) := dk_44 (dk_at dksJ1_getCeilingEntry_0 5 rfl rfl)
theorem dJ1_getCeilingEntry_6 : decode cJ1_getCeilingEntry 6 = .ok (.ifnull 99, 3) := dk_198 0 99 (dk_at dksJ1_getCeilingEntry_0 6 rfl rfl)
theorem dJ1_getCeilingEntry_9 : decode cJ1_getCeilingEntry 9 = .ok (.aload_n 0, 1) := dk_42 (dk_at dksJ1_getCeilingEntry_0 9 rfl rfl)
theorem dJ1_getCeilingEntry_10 : decode cJ1_getCeilingEntry 10 = .ok (.aload_n 1, 1) := dk_43 (dk_at dksJ1_getCeilingEntry_0 10 rfl rfl)
theorem dJ1_getCeilingEntry_11 : decode cJ1_getCeilingEntry 11 = .ok (.aload_n 2, 1) := dk_44 (dk_at dksJ1_getCeilingEntry_0 11 rfl rfl)
theorem dJ1_getCeilingEntry_12 : decode cJ1_getCeilingEntry 12 = .ok (.getfield 105, 3) := dk_180 0 105 (dk_at dksJ1_getCeilingEntry_0 12 rfl rfl)
theorem dJ1_getCeilingEntry_15 : decode cJ1_getCeilingEntry 15 = .ok (.invokevirtual 123, 3) := dk_182 0 123 (dk_at dksJ1_getCeilingEntry_0 15 rfl rfl)
theorem dJ1_getCeilingEntry_18 : decode cJ1_getCeilingEntry 18 = .ok (.istore_n 3, 1) := dk_62 (dk_at dksJ1_getCeilingEntry_0 18 rfl rfl)
theorem dJ1_getCeilingEntry_19 : decode cJ1_getCeilingEntry 19 = .ok (.iload_n 3, 1) := dk_29 (dk_at dksJ1_getCeilingEntry_0 19 rfl rfl)
theorem dJ1_getCeilingEntry_20 : decode cJ1_getCeilingEntry 20 = .ok (.ifCond .ge 20, 3) := dk_156 0 20 (dk_at dksJ1_getCeilingEntry_0 20 rfl rfl)
theorem dJ1_getCeilingEntry_23 : decode cJ1_getCeilingEntry 23 = .ok (.aload_n 2, 1) := dk_44 (dk_at dksJ1_getCeilingEntry_0 23 rfl rfl)
theorem dJ1_getCeilingEntry_24 : decode cJ1_getCeilingEntry 24 = .ok (.getfield 111, 3) := dk_180 0 111 (dk_at dksJ1_getCeilingEntry_1 0 rfl rfl)
theorem dJ1_getCeilingEntry_27 : decode cJ1_getCeilingEntry 27 = .ok (.ifnull 11, 3) := dk_198 0 11 (dk_at dksJ1_getCeilingEntry_1 3 rfl rfl)
theorem dJ1_getCeilingEntry_30 : decode cJ1_getCeilingEntry 30 = .ok (.aload_n 2, 1) := dk_44 (dk_at dksJ1_getCeilingEntry_1 6 rfl rfl)
theorem dJ1_getCeilingEntry_31 : decode cJ1_getCeilingEntry 31 = .ok (.getfield 111, 3) := dk_180 0 111 (dk_at dksJ1_getCeilingEntry_1 7 rfl rfl)
theorem dJ1_getCeilingEntry_34 : decode cJ1_getCeilingEntry 34 = .ok (.astore_n 2, 1) := dk_77 (dk_at dksJ1_getCeilingEntry_1 10 rfl rfl)
theorem dJ1_getCeilingEntry_35 : decode cJ1_getCeilingEntry 35 = .ok (.goto 67, 3) := dk_167 0 67 (dk_at dksJ1_getCeilingEntry_1 11 rfl rfl)
theorem dJ1_getCeilingEntry_38 : decode cJ1_getCeilingEntry 38 = .ok (.aload_n 2, 1) := dk_44 (dk_at dksJ1_getCeilingEntry_1 14 rfl rfl)
theorem dJ1_getCeilingEntry_39 : decode cJ1_getCeilingEntry 39 = .ok (.areturn, 1) := dk_176 (dk_at dksJ1_getCeilingEntry_1 15 rfl rfl)
theorem dJ1_getCeilingEntry_40 : decode cJ1_getCeilingEntry 40 = .ok (.iload_n 3, 1) := dk_29 (dk_at dksJ1_getCeilingEntry_1 16 rfl rfl)
theorem dJ1_getCeilingEntry_41 : decode cJ1_getCeilingEntry 41 = .ok (.ifCond .le 59, 3) := dk_158 0 59 (dk_at dksJ1_getCeilingEntry_1 17 rfl rfl)
theorem dJ1_getCeilingEntry_44 : decode cJ1_getCeilingEntry 44 = .ok (.aload_n 2, 1) := dk_44 (dk_at dksJ1_getCeilingEntry_1 20 rfl rfl)
theorem dJ1_getCeilingEntry_45 : decode cJ1_getCeilingEntry 45 = .ok (.getfield 114, 3) := dk_180 0 114 (dk_at dksJ1_getCeilingEntry_1 21 rfl rfl)
theorem dJ1_getCeilingEntry_48 : decode cJ1_getCeilingEntry 48 = .ok (.ifnull 11, 3) := dk_198 0 11 (dk_at dksJ1_getCeilingEntry_2 0 rfl rfl)
theorem dJ1_getCeilingEntry_51 : decode cJ1_getCeilingEntry 51 = .ok (.aload_n 2, 1) := dk_44 (dk_at dksJ1_getCeilingEntry_2 3 rfl rfl)
theorem dJ1_getCeilingEntry_52 : decode cJ1_getCeilingEntry 52 = .ok (.getfield 114, 3) := dk_180 0 114 (dk_at dksJ1_getCeilingEntry_2 4 rfl rfl)
theorem dJ1_getCeilingEntry_55 : decode cJ1_getCeilingEntry 55 = .ok (.astore_n 2, 1) := dk_77 (dk_at dksJ1_getCeilingEntry_2 7 rfl rfl)
theorem dJ1_getCeilingEntry_56 : decode cJ1_getCeilingEntry 56 = .ok (.goto 46, 3) := dk_167 0 46 (dk_at dksJ1_getCeilingEntry_2 8 rfl rfl)
theorem dJ1_getCeilingEntry_59 : decode cJ1_getCeilingEntry 59 = .ok (.aload_n 2, 1) := dk_44 (dk_at dksJ1_getCeilingEntry_2 11 rfl rfl)
theorem dJ1_getCeilingEntry_60 : decode cJ1_getCeilingEntry 60 = .ok (.getfield 124, 3) := dk_180 0 124 (dk_at dksJ1_getCeilingEntry_2 12 rfl rfl)
theorem dJ1_getCeilingEntry_63 : decode cJ1_getCeilingEntry 63 = .ok (.astore 4, 2) := dk_58 4 (dk_at dksJ1_getCeilingEntry_2 15 rfl rfl)
theorem dJ1_getCeilingEntry_65 : decode cJ1_getCeilingEntry 65 = .ok (.aload_n 2, 1) := dk_44 (dk_at dksJ1_getCeilingEntry_2 17 rfl rfl)
theorem dJ1_getCeilingEntry_66 : decode cJ1_getCeilingEntry 66 = .ok (.astore 5, 2) := dk_58 5 (dk_at dksJ1_getCeilingEntry_2 18 rfl rfl)
theorem dJ1_getCeilingEntry_68 : decode cJ1_getCeilingEntry 68 = .ok (.aload 4, 2) := dk_25 4 (dk_at dksJ1_getCeilingEntry_2 20 rfl rfl)
theorem dJ1_getCeilingEntry_70 : decode cJ1_getCeilingEntry 70 = .ok (.ifnull 27, 3) := dk_198 0 27 (dk_at dksJ1_getCeilingEntry_3 0 rfl rfl)
theorem dJ1_getCeilingEntry_73 : decode cJ1_getCeilingEntry 73 = .ok (.aload 5, 2) := dk_25 5 (dk_at dksJ1_getCeilingEntry_3 3 rfl rfl)
theorem dJ1_getCeilingEntry_75 : decode cJ1_getCeilingEntry 75 = .ok (.aload 4, 2) := dk_25 4 (dk_at dksJ1_getCeilingEntry_3 5 rfl rfl)
theorem dJ1_getCeilingEntry_77 : decode cJ1_getCeilingEntry 77 = .ok (.getfield 114, 3) := dk_180 0 114 (dk_at dksJ1_getCeilingEntry_3 7 rfl rfl)
theorem dJ1_getCeilingEntry_80 : decode cJ1_getCeilingEntry 80 = .ok (.if_acmp .ne 17, 3) := dk_166 0 17 (dk_at dksJ1_getCeilingEntry_3 10 rfl rfl)
theorem dJ1_getCeilingEntry_83 : decode cJ1_getCeilingEntry 83 = .ok (.aload 4, 2) := dk_25 4 (dk_at dksJ1_getCeilingEntry_3 13 rfl rfl)
theorem dJ1_getCeilingEntry_85 : decode cJ1_getCeilingEntry 85 = .ok (.astore 5, 2) := dk_58 5 (dk_at dksJ1_getCeilingEntry_3 15 rfl rfl)
theorem dJ1_getCeilingEntry_87 : decode cJ1_getCeilingEntry 87 = .ok (.aload 4, 2) := dk_25 4 (dk_at dksJ1_getCeilingEntry_3 17 rfl rfl)
theorem dJ1_getCeilingEntry_89 : decode cJ1_getCeilingEntry 89 = .ok (.getfield 124, 3) := dk_180 0 124 (dk_at dksJ1_getCeilingEntry_3 19 rfl rfl)
theorem dJ1_getCeilingEntry_92 : decode cJ1_getCeilingEntry 92 = .ok (.astore 4, 2) := dk_58 4 (dk_at dksJ1_getCeilingEntry_3 22 rfl rfl)
theorem dJ1_getCeilingEntry_94 : decode cJ1_getCeilingEntry 94 = .ok (.goto (-26), 3) := dk_167 255 230 (dk_at dksJ1_getCeilingEntry_4 0 rfl rfl)
theorem dJ1_getCeilingEntry_97 : decode cJ1_getCeilingEntry 97 = .ok (.aload 4, 2) := dk_25 4 (dk_at dksJ1_getCeilingEntry_4 3 rfl rfl)
theorem dJ1_getCeilingEntry_99 : decode cJ1_getCeilingEntry 99 = .ok (.areturn, 1) := dk_176 (dk_at dksJ1_getCeilingEntry_4 5 rfl rfl)
theorem dJ1_getCeilingEntry_100 : decode cJ1_getCeilingEntry 100 = .ok (.aload_n 2, 1) := dk_44 (dk_at dksJ1_getCeilingEntry_4 6 rfl rfl)
theorem dJ1_getCeilingEntry_101 : decode cJ1_getCeilingEntry 101 = .ok (.areturn, 1) := dk_176 (dk_at dksJ1_getCeilingEntry_4 7 rfl rfl)
theorem dJ1_getCeilingEntry_102 : decode cJ1_getCeilingEntry 102 = .ok (.goto (-97), 3) := dk_167 255 159 (dk_at dksJ1_getCeilingEntry_4 8 rfl rfl)
theorem dJ1_getCeilingEntry_105 : decode cJ1_getCeilingEntry 105 = .ok (.aconst_null, 1) := dk_1 (dk_at dksJ1_getCeilingEntry_4 11 rfl rfl)
theorem dJ1_getCeilingEntry_106 : decode cJ1_getCeilingEntry 106 = .ok (.areturn, 1) := dk_176 (dk_at dksJ1_getCeilingEntry_4 12 rfl rfl)
abbrev kJ1_getCeilingEntry : KX := (cJ1_getCeilingEntry, "java/util/TreeMap", "getCeilingEntry", 6, some (.object "java/util/TreeMap$Entry"), [], 10)
abbrev cJ1_compare : ByteArray := prog_75_method_67_code
def yJ1_compare : MethodName := ⟨RJ1, "compare", "(Ljava/lang/Object;Ljava/lang/Object;)I"⟩
def dkwJ1_compare_1 : List UInt8 := [43, 44, 185, 0, 117, 3, 0, 172]
abbrev dktJ1_compare_1 : List UInt8 := dkwJ1_compare_1 ++ []
def dkwJ1_compare_0 : List UInt8 := [42, 180, 0, 16, 199, 0, 16, 43, 192, 0, 99, 44, 185, 0, 107, 2, 0, 167, 0, 14, 42, 180, 0, 16]
abbrev dktJ1_compare_0 : List UInt8 := dkwJ1_compare_0 ++ dktJ1_compare_1
theorem dksJ1_compare_0 : cJ1_compare.data.toList.drop 0 = dktJ1_compare_0 := by decide +kernel
theorem dksJ1_compare_1 : cJ1_compare.data.toList.drop 24 = dktJ1_compare_1 := dk_seg dksJ1_compare_0 24 rfl rfl
theorem dJ1_compare_0 : decode cJ1_compare 0 = .ok (.aload_n 0, 1) := dk_42 (dk_at dksJ1_compare_0 0 rfl rfl)
theorem dJ1_compare_1 : decode cJ1_compare 1 = .ok (.getfield 16, 3) := dk_180 0 16 (dk_at dksJ1_compare_0 1 rfl rfl)
theorem dJ1_compare_4 : decode cJ1_compare 4 = .ok (.ifnonnull 16, 3) := dk_199 0 16 (dk_at dksJ1_compare_0 4 rfl rfl)
theorem dJ1_compare_7 : decode cJ1_compare 7 = .ok (.aload_n 1, 1) := dk_43 (dk_at dksJ1_compare_0 7 rfl rfl)
theorem dJ1_compare_8 : decode cJ1_compare 8 = .ok (.checkcast 99, 3) := dk_192 0 99 (dk_at dksJ1_compare_0 8 rfl rfl)
theorem dJ1_compare_11 : decode cJ1_compare 11 = .ok (.aload_n 2, 1) := dk_44 (dk_at dksJ1_compare_0 11 rfl rfl)
theorem dJ1_compare_12 : decode cJ1_compare 12 = .ok (.invokeinterface 107 2, 5) := by decide +kernel
theorem dJ1_compare_17 : decode cJ1_compare 17 = .ok (.goto 14, 3) := dk_167 0 14 (dk_at dksJ1_compare_0 17 rfl rfl)
theorem dJ1_compare_20 : decode cJ1_compare 20 = .ok (.aload_n 0, 1) := dk_42 (dk_at dksJ1_compare_0 20 rfl rfl)
theorem dJ1_compare_21 : decode cJ1_compare 21 = .ok (.getfield 16, 3) := dk_180 0 16 (dk_at dksJ1_compare_0 21 rfl rfl)
theorem dJ1_compare_24 : decode cJ1_compare 24 = .ok (.aload_n 1, 1) := dk_43 (dk_at dksJ1_compare_1 0 rfl rfl)
theorem dJ1_compare_25 : decode cJ1_compare 25 = .ok (.aload_n 2, 1) := dk_44 (dk_at dksJ1_compare_1 1 rfl rfl)
theorem dJ1_compare_26 : decode cJ1_compare 26 = .ok (.invokeinterface 117 3, 5) := by decide +kernel
theorem dJ1_compare_31 : decode cJ1_compare 31 = .ok (.ireturn, 1) := dk_172 (dk_at dksJ1_compare_1 7 rfl rfl)
abbrev kJ1_compare : KX := (cJ1_compare, "java/util/TreeMap", "compare", 3, some .int, [], 9)
abbrev cJ1_getHigherEntry : ByteArray := prog_75_method_19_code
def yJ1_getHigherEntry : MethodName := ⟨RJ1, "getHigherEntry", "(Ljava/lang/Object;)Ljava/util/TreeMap$Entry;"⟩
def dkwJ1_getHigherEntry_4 : List UInt8 := [176, 167, 255, 165, 1, 176]
abbrev dktJ1_getHigherEntry_4 : List UInt8 := dkwJ1_getHigherEntry_4 ++ []
def dkwJ1_getHigherEntry_3 : List UInt8 := [25, 4, 180, 0, 114, 166, 0, 17, 25, 4, 58, 5, 25, 4, 180, 0, 124, 58, 4, 167, 255, 230, 25, 4]
abbrev dktJ1_getHigherEntry_3 : List UInt8 := dkwJ1_getHigherEntry_3 ++ dktJ1_getHigherEntry_4
def dkwJ1_getHigherEntry_2 : List UInt8 := [180, 0, 114, 77, 167, 0, 44, 44, 180, 0, 124, 58, 4, 44, 58, 5, 25, 4, 198, 0, 27, 25, 5]
abbrev dktJ1_getHigherEntry_2 : List UInt8 := dkwJ1_getHigherEntry_2 ++ dktJ1_getHigherEntry_3
def dkwJ1_getHigherEntry_1 : List UInt8 := [180, 0, 111, 198, 0, 11, 44, 180, 0, 111, 77, 167, 0, 61, 44, 176, 44, 180, 0, 114, 198, 0, 11, 44]
abbrev dktJ1_getHigherEntry_1 : List UInt8 := dkwJ1_getHigherEntry_1 ++ dktJ1_getHigherEntry_2
def dkwJ1_getHigherEntry_0 : List UInt8 := [42, 180, 0, 101, 77, 44, 198, 0, 93, 42, 43, 44, 180, 0, 105, 182, 0, 123, 62, 29, 156, 0, 20, 44]
abbrev dktJ1_getHigherEntry_0 : List UInt8 := dkwJ1_getHigherEntry_0 ++ dktJ1_getHigherEntry_1
theorem dksJ1_getHigherEntry_0 : cJ1_getHigherEntry.data.toList.drop 0 = dktJ1_getHigherEntry_0 := by decide +kernel
theorem dksJ1_getHigherEntry_1 : cJ1_getHigherEntry.data.toList.drop 24 = dktJ1_getHigherEntry_1 := dk_seg dksJ1_getHigherEntry_0 24 rfl rfl
theorem dksJ1_getHigherEntry_2 : cJ1_getHigherEntry.data.toList.drop 48 = dktJ1_getHigherEntry_2 := dk_seg dksJ1_getHigherEntry_1 24 rfl rfl
theorem dksJ1_getHigherEntry_3 : cJ1_getHigherEntry.data.toList.drop 71 = dktJ1_getHigherEntry_3 := dk_seg dksJ1_getHigherEntry_2 23 rfl rfl
theorem dksJ1_getHigherEntry_4 : cJ1_getHigherEntry.data.toList.drop 95 = dktJ1_getHigherEntry_4 := dk_seg dksJ1_getHigherEntry_3 24 rfl rfl
theorem dJ1_getHigherEntry_0 : decode cJ1_getHigherEntry 0 = .ok (.aload_n 0, 1) := dk_42 (dk_at dksJ1_getHigherEntry_0 0 rfl rfl)
theorem dJ1_getHigherEntry_1 : decode cJ1_getHigherEntry 1 = .ok (.getfield 101, 3) := dk_180 0 101 (dk_at dksJ1_getHigherEntry_0 1 rfl rfl)
theorem dJ1_getHigherEntry_4 : decode cJ1_getHigherEntry 4 = .ok (.astore_n 2, 1) := dk_77 (dk_at dksJ1_getHigherEntry_0 4 rfl rfl)
theorem dJ1_getHigherEntry_5 : decode cJ1_getHigherEntry 5 = .ok (.aload_n 2, 1) := dk_44 (dk_at dksJ1_getHigherEntry_0 5 rfl rfl)
theorem dJ1_getHigherEntry_6 : decode cJ1_getHigherEntry 6 = .ok (.ifnull 93, 3) := dk_198 0 93 (dk_at dksJ1_getHigherEntry_0 6 rfl rfl)
theorem dJ1_getHigherEntry_9 : decode cJ1_getHigherEntry 9 = .ok (.aload_n 0, 1) := dk_42 (dk_at dksJ1_getHigherEntry_0 9 rfl rfl)
theorem dJ1_getHigherEntry_10 : decode cJ1_getHigherEntry 10 = .ok (.aload_n 1, 1) := dk_43 (dk_at dksJ1_getHigherEntry_0 10 rfl rfl)
theorem dJ1_getHigherEntry_11 : decode cJ1_getHigherEntry 11 = .ok (.aload_n 2, 1) := dk_44 (dk_at dksJ1_getHigherEntry_0 11 rfl rfl)
theorem dJ1_getHigherEntry_12 : decode cJ1_getHigherEntry 12 = .ok (.getfield 105, 3) := dk_180 0 105 (dk_at dksJ1_getHigherEntry_0 12 rfl rfl)
theorem dJ1_getHigherEntry_15 : decode cJ1_getHigherEntry 15 = .ok (.invokevirtual 123, 3) := dk_182 0 123 (dk_at dksJ1_getHigherEntry_0 15 rfl rfl)
theorem dJ1_getHigherEntry_18 : decode cJ1_getHigherEntry 18 = .ok (.istore_n 3, 1) := dk_62 (dk_at dksJ1_getHigherEntry_0 18 rfl rfl)
theorem dJ1_getHigherEntry_19 : decode cJ1_getHigherEntry 19 = .ok (.iload_n 3, 1) := dk_29 (dk_at dksJ1_getHigherEntry_0 19 rfl rfl)
theorem dJ1_getHigherEntry_20 : decode cJ1_getHigherEntry 20 = .ok (.ifCond .ge 20, 3) := dk_156 0 20 (dk_at dksJ1_getHigherEntry_0 20 rfl rfl)
theorem dJ1_getHigherEntry_23 : decode cJ1_getHigherEntry 23 = .ok (.aload_n 2, 1) := dk_44 (dk_at dksJ1_getHigherEntry_0 23 rfl rfl)
theorem dJ1_getHigherEntry_24 : decode cJ1_getHigherEntry 24 = .ok (.getfield 111, 3) := dk_180 0 111 (dk_at dksJ1_getHigherEntry_1 0 rfl rfl)
theorem dJ1_getHigherEntry_27 : decode cJ1_getHigherEntry 27 = .ok (.ifnull 11, 3) := dk_198 0 11 (dk_at dksJ1_getHigherEntry_1 3 rfl rfl)
theorem dJ1_getHigherEntry_30 : decode cJ1_getHigherEntry 30 = .ok (.aload_n 2, 1) := dk_44 (dk_at dksJ1_getHigherEntry_1 6 rfl rfl)
theorem dJ1_getHigherEntry_31 : decode cJ1_getHigherEntry 31 = .ok (.getfield 111, 3) := dk_180 0 111 (dk_at dksJ1_getHigherEntry_1 7 rfl rfl)
theorem dJ1_getHigherEntry_34 : decode cJ1_getHigherEntry 34 = .ok (.astore_n 2, 1) := dk_77 (dk_at dksJ1_getHigherEntry_1 10 rfl rfl)
theorem dJ1_getHigherEntry_35 : decode cJ1_getHigherEntry 35 = .ok (.goto 61, 3) := dk_167 0 61 (dk_at dksJ1_getHigherEntry_1 11 rfl rfl)
theorem dJ1_getHigherEntry_38 : decode cJ1_getHigherEntry 38 = .ok (.aload_n 2, 1) := dk_44 (dk_at dksJ1_getHigherEntry_1 14 rfl rfl)
theorem dJ1_getHigherEntry_39 : decode cJ1_getHigherEntry 39 = .ok (.areturn, 1) := dk_176 (dk_at dksJ1_getHigherEntry_1 15 rfl rfl)
theorem dJ1_getHigherEntry_40 : decode cJ1_getHigherEntry 40 = .ok (.aload_n 2, 1) := dk_44 (dk_at dksJ1_getHigherEntry_1 16 rfl rfl)
theorem dJ1_getHigherEntry_41 : decode cJ1_getHigherEntry 41 = .ok (.getfield 114, 3) := dk_180 0 114 (dk_at dksJ1_getHigherEntry_1 17 rfl rfl)
theorem dJ1_getHigherEntry_44 : decode cJ1_getHigherEntry 44 = .ok (.ifnull 11, 3) := dk_198 0 11 (dk_at dksJ1_getHigherEntry_1 20 rfl rfl)
theorem dJ1_getHigherEntry_47 : decode cJ1_getHigherEntry 47 = .ok (.aload_n 2, 1) := dk_44 (dk_at dksJ1_getHigherEntry_1 23 rfl rfl)
theorem dJ1_getHigherEntry_48 : decode cJ1_getHigherEntry 48 = .ok (.getfield 114, 3) := dk_180 0 114 (dk_at dksJ1_getHigherEntry_2 0 rfl rfl)
theorem dJ1_getHigherEntry_51 : decode cJ1_getHigherEntry 51 = .ok (.astore_n 2, 1) := dk_77 (dk_at dksJ1_getHigherEntry_2 3 rfl rfl)
theorem dJ1_getHigherEntry_52 : decode cJ1_getHigherEntry 52 = .ok (.goto 44, 3) := dk_167 0 44 (dk_at dksJ1_getHigherEntry_2 4 rfl rfl)
theorem dJ1_getHigherEntry_55 : decode cJ1_getHigherEntry 55 = .ok (.aload_n 2, 1) := dk_44 (dk_at dksJ1_getHigherEntry_2 7 rfl rfl)
theorem dJ1_getHigherEntry_56 : decode cJ1_getHigherEntry 56 = .ok (.getfield 124, 3) := dk_180 0 124 (dk_at dksJ1_getHigherEntry_2 8 rfl rfl)
theorem dJ1_getHigherEntry_59 : decode cJ1_getHigherEntry 59 = .ok (.astore 4, 2) := dk_58 4 (dk_at dksJ1_getHigherEntry_2 11 rfl rfl)
theorem dJ1_getHigherEntry_61 : decode cJ1_getHigherEntry 61 = .ok (.aload_n 2, 1) := dk_44 (dk_at dksJ1_getHigherEntry_2 13 rfl rfl)
theorem dJ1_getHigherEntry_62 : decode cJ1_getHigherEntry 62 = .ok (.astore 5, 2) := dk_58 5 (dk_at dksJ1_getHigherEntry_2 14 rfl rfl)
theorem dJ1_getHigherEntry_64 : decode cJ1_getHigherEntry 64 = .ok (.aload 4, 2) := dk_25 4 (dk_at dksJ1_getHigherEntry_2 16 rfl rfl)
theorem dJ1_getHigherEntry_66 : decode cJ1_getHigherEntry 66 = .ok (.ifnull 27, 3) := dk_198 0 27 (dk_at dksJ1_getHigherEntry_2 18 rfl rfl)
theorem dJ1_getHigherEntry_69 : decode cJ1_getHigherEntry 69 = .ok (.aload 5, 2) := dk_25 5 (dk_at dksJ1_getHigherEntry_2 21 rfl rfl)
theorem dJ1_getHigherEntry_71 : decode cJ1_getHigherEntry 71 = .ok (.aload 4, 2) := dk_25 4 (dk_at dksJ1_getHigherEntry_3 0 rfl rfl)
theorem dJ1_getHigherEntry_73 : decode cJ1_getHigherEntry 73 = .ok (.getfield 114, 3) := dk_180 0 114 (dk_at dksJ1_getHigherEntry_3 2 rfl rfl)
theorem dJ1_getHigherEntry_76 : decode cJ1_getHigherEntry 76 = .ok (.if_acmp .ne 17, 3) := dk_166 0 17 (dk_at dksJ1_getHigherEntry_3 5 rfl rfl)
theorem dJ1_getHigherEntry_79 : decode cJ1_getHigherEntry 79 = .ok (.aload 4, 2) := dk_25 4 (dk_at dksJ1_getHigherEntry_3 8 rfl rfl)
theorem dJ1_getHigherEntry_81 : decode cJ1_getHigherEntry 81 = .ok (.astore 5, 2) := dk_58 5 (dk_at dksJ1_getHigherEntry_3 10 rfl rfl)
theorem dJ1_getHigherEntry_83 : decode cJ1_getHigherEntry 83 = .ok (.aload 4, 2) := dk_25 4 (dk_at dksJ1_getHigherEntry_3 12 rfl rfl)
theorem dJ1_getHigherEntry_85 : decode cJ1_getHigherEntry 85 = .ok (.getfield 124, 3) := dk_180 0 124 (dk_at dksJ1_getHigherEntry_3 14 rfl rfl)
theorem dJ1_getHigherEntry_88 : decode cJ1_getHigherEntry 88 = .ok (.astore 4, 2) := dk_58 4 (dk_at dksJ1_getHigherEntry_3 17 rfl rfl)
theorem dJ1_getHigherEntry_90 : decode cJ1_getHigherEntry 90 = .ok (.goto (-26), 3) := dk_167 255 230 (dk_at dksJ1_getHigherEntry_3 19 rfl rfl)
theorem dJ1_getHigherEntry_93 : decode cJ1_getHigherEntry 93 = .ok (.aload 4, 2) := dk_25 4 (dk_at dksJ1_getHigherEntry_3 22 rfl rfl)
theorem dJ1_getHigherEntry_95 : decode cJ1_getHigherEntry 95 = .ok (.areturn, 1) := dk_176 (dk_at dksJ1_getHigherEntry_4 0 rfl rfl)
theorem dJ1_getHigherEntry_96 : decode cJ1_getHigherEntry 96 = .ok (.goto (-91), 3) := dk_167 255 165 (dk_at dksJ1_getHigherEntry_4 1 rfl rfl)
theorem dJ1_getHigherEntry_99 : decode cJ1_getHigherEntry 99 = .ok (.aconst_null, 1) := dk_1 (dk_at dksJ1_getHigherEntry_4 4 rfl rfl)
theorem dJ1_getHigherEntry_100 : decode cJ1_getHigherEntry 100 = .ok (.areturn, 1) := dk_176 (dk_at dksJ1_getHigherEntry_4 5 rfl rfl)
abbrev kJ1_getHigherEntry : KX := (cJ1_getHigherEntry, "java/util/TreeMap", "getHigherEntry", 6, some (.object "java/util/TreeMap$Entry"), [], 10)
abbrev cJ1_keyIterator : ByteArray := prog_75_method_65_code
def yJ1_keyIterator : MethodName := ⟨RJ1, "keyIterator", "()Ljava/util/Iterator;"⟩
def dkwJ1_keyIterator_0 : List UInt8 := [187, 1, 13, 89, 42, 42, 182, 0, 54, 183, 1, 15, 176]
abbrev dktJ1_keyIterator_0 : List UInt8 := dkwJ1_keyIterator_0 ++ []
theorem dksJ1_keyIterator_0 : cJ1_keyIterator.data.toList.drop 0 = dktJ1_keyIterator_0 := by decide +kernel
theorem dJ1_keyIterator_0 : decode cJ1_keyIterator 0 = .ok (.new 269, 3) := dk_187 1 13 (dk_at dksJ1_keyIterator_0 0 rfl rfl)
theorem dJ1_keyIterator_3 : decode cJ1_keyIterator 3 = .ok (.dup, 1) := dk_89 (dk_at dksJ1_keyIterator_0 3 rfl rfl)
theorem dJ1_keyIterator_4 : decode cJ1_keyIterator 4 = .ok (.aload_n 0, 1) := dk_42 (dk_at dksJ1_keyIterator_0 4 rfl rfl)
theorem dJ1_keyIterator_5 : decode cJ1_keyIterator 5 = .ok (.aload_n 0, 1) := dk_42 (dk_at dksJ1_keyIterator_0 5 rfl rfl)
theorem dJ1_keyIterator_6 : decode cJ1_keyIterator 6 = .ok (.invokevirtual 54, 3) := dk_182 0 54 (dk_at dksJ1_keyIterator_0 6 rfl rfl)
theorem dJ1_keyIterator_9 : decode cJ1_keyIterator 9 = .ok (.invokespecial 271, 3) := dk_183 1 15 (dk_at dksJ1_keyIterator_0 9 rfl rfl)
theorem dJ1_keyIterator_12 : decode cJ1_keyIterator 12 = .ok (.areturn, 1) := dk_176 (dk_at dksJ1_keyIterator_0 12 rfl rfl)
abbrev kJ1_keyIterator : KX := (cJ1_keyIterator, "java/util/TreeMap", "keyIterator", 1, some (.object "java/util/Iterator"), [], 3)
abbrev cJ1_navigableKeySet : ByteArray := prog_75_method_50_code
def yJ1_navigableKeySet : MethodName := ⟨RJ1, "navigableKeySet", "()Ljava/util/NavigableSet;"⟩
def dkwJ1_navigableKeySet_1 : List UInt8 := [181, 0, 191, 176]
abbrev dktJ1_navigableKeySet_1 : List UInt8 := dkwJ1_navigableKeySet_1 ++ []
def dkwJ1_navigableKeySet_0 : List UInt8 := [42, 180, 0, 191, 76, 43, 198, 0, 7, 43, 167, 0, 16, 42, 187, 0, 222, 89, 42, 183, 0, 224, 90]
abbrev dktJ1_navigableKeySet_0 : List UInt8 := dkwJ1_navigableKeySet_0 ++ dktJ1_navigableKeySet_1
theorem dksJ1_navigableKeySet_0 : cJ1_navigableKeySet.data.toList.drop 0 = dktJ1_navigableKeySet_0 := by decide +kernel
theorem dksJ1_navigableKeySet_1 : cJ1_navigableKeySet.data.toList.drop 23 = dktJ1_navigableKeySet_1 := dk_seg dksJ1_navigableKeySet_0 23 rfl rfl
theorem dJ1_navigableKeySet_0 : decode cJ1_navigableKeySet 0 = .ok (.aload_n 0, 1) := dk_42 (dk_at dksJ1_navigableKeySet_0 0 rfl rfl)
theorem dJ1_navigableKeySet_1 : decode cJ1_navigableKeySet 1 = .ok (.getfield 191, 3) := dk_180 0 191 (dk_at dksJ1_navigableKeySet_0 1 rfl rfl)
theorem dJ1_navigableKeySet_4 : decode cJ1_navigableKeySet 4 = .ok (.astore_n 1, 1) := dk_76 (dk_at dksJ1_navigableKeySet_0 4 rfl rfl)
theorem dJ1_navigableKeySet_5 : decode cJ1_navigableKeySet 5 = .ok (.aload_n 1, 1) := dk_43 (dk_at dksJ1_navigableKeySet_0 5 rfl rfl)
theorem dJ1_navigableKeySet_6 : decode cJ1_navigableKeySet 6 = .ok (.ifnull 7, 3) := dk_198 0 7 (dk_at dksJ1_navigableKeySet_0 6 rfl rfl)
theorem dJ1_navigableKeySet_9 : decode cJ1_navigableKeySet 9 = .ok (.aload_n 1, 1) := dk_43 (dk_at dksJ1_navigableKeySet_0 9 rfl rfl)
theorem dJ1_navigableKeySet_10 : decode cJ1_navigableKeySet 10 = .ok (.goto 16, 3) := dk_167 0 16 (dk_at dksJ1_navigableKeySet_0 10 rfl rfl)
theorem dJ1_navigableKeySet_13 : decode cJ1_navigableKeySet 13 = .ok (.aload_n 0, 1) := dk_42 (dk_at dksJ1_navigableKeySet_0 13 rfl rfl)
theorem dJ1_navigableKeySet_14 : decode cJ1_navigableKeySet 14 = .ok (.new 222, 3) := dk_187 0 222 (dk_at dksJ1_navigableKeySet_0 14 rfl rfl)
theorem dJ1_navigableKeySet_17 : decode cJ1_navigableKeySet 17 = .ok (.dup, 1) := dk_89 (dk_at dksJ1_navigableKeySet_0 17 rfl rfl)
theorem dJ1_navigableKeySet_18 : decode cJ1_navigableKeySet 18 = .ok (.aload_n 0, 1) := dk_42 (dk_at dksJ1_navigableKeySet_0 18 rfl rfl)
theorem dJ1_navigableKeySet_19 : decode cJ1_navigableKeySet 19 = .ok (.invokespecial 224, 3) := dk_183 0 224 (dk_at dksJ1_navigableKeySet_0 19 rfl rfl)
theorem dJ1_navigableKeySet_22 : decode cJ1_navigableKeySet 22 = .ok (.dup_x1, 1) := dk_90 (dk_at dksJ1_navigableKeySet_0 22 rfl rfl)
theorem dJ1_navigableKeySet_23 : decode cJ1_navigableKeySet 23 = .ok (.putfield 191, 3) := dk_181 0 191 (dk_at dksJ1_navigableKeySet_1 0 rfl rfl)
theorem dJ1_navigableKeySet_26 : decode cJ1_navigableKeySet 26 = .ok (.areturn, 1) := dk_176 (dk_at dksJ1_navigableKeySet_1 3 rfl rfl)
abbrev kJ1_navigableKeySet : KX := (cJ1_navigableKeySet, "java/util/TreeMap", "navigableKeySet", 2, some (.object "java/util/NavigableSet"), [], 4)
abbrev cJ1_successor : ByteArray := prog_75_method_74_code
def yJ1_successor : MethodName := ⟨RJ1, "successor", "(Ljava/util/TreeMap$Entry;)Ljava/util/TreeMap$Entry;"⟩
def dkwJ1_successor_2 : List UInt8 := [44, 43, 180, 0, 114, 166, 0, 13, 43, 77, 43, 180, 0, 124, 76, 167, 255, 237, 43, 176]
abbrev dktJ1_successor_2 : List UInt8 := dkwJ1_successor_2 ++ []
def dkwJ1_successor_1 : List UInt8 := [198, 0, 11, 43, 180, 0, 111, 76, 167, 255, 244, 43, 176, 42, 180, 0, 124, 76, 42, 77, 43, 198, 0, 21]
abbrev dktJ1_successor_1 : List UInt8 := dkwJ1_successor_1 ++ dktJ1_successor_2
def dkwJ1_successor_0 : List UInt8 := [42, 199, 0, 5, 1, 176, 42, 180, 0, 114, 198, 0, 25, 42, 180, 0, 114, 76, 43, 180, 0, 111]
abbrev dktJ1_successor_0 : List UInt8 := dkwJ1_successor_0 ++ dktJ1_successor_1
theorem dksJ1_successor_0 : cJ1_successor.data.toList.drop 0 = dktJ1_successor_0 := by decide +kernel
theorem dksJ1_successor_1 : cJ1_successor.data.toList.drop 22 = dktJ1_successor_1 := dk_seg dksJ1_successor_0 22 rfl rfl
theorem dksJ1_successor_2 : cJ1_successor.data.toList.drop 46 = dktJ1_successor_2 := dk_seg dksJ1_successor_1 24 rfl rfl
theorem dJ1_successor_0 : decode cJ1_successor 0 = .ok (.aload_n 0, 1) := dk_42 (dk_at dksJ1_successor_0 0 rfl rfl)
theorem dJ1_successor_1 : decode cJ1_successor 1 = .ok (.ifnonnull 5, 3) := dk_199 0 5 (dk_at dksJ1_successor_0 1 rfl rfl)
theorem dJ1_successor_4 : decode cJ1_successor 4 = .ok (.aconst_null, 1) := dk_1 (dk_at dksJ1_successor_0 4 rfl rfl)
theorem dJ1_successor_5 : decode cJ1_successor 5 = .ok (.areturn, 1) := dk_176 (dk_at dksJ1_successor_0 5 rfl rfl)
theorem dJ1_successor_6 : decode cJ1_successor 6 = .ok (.aload_n 0, 1) := dk_42 (dk_at dksJ1_successor_0 6 rfl rfl)
theorem dJ1_successor_7 : decode cJ1_successor 7 = .ok (.getfield 114, 3) := dk_180 0 114 (dk_at dksJ1_successor_0 7 rfl rfl)
theorem dJ1_successor_10 : decode cJ1_successor 10 = .ok (.ifnull 25, 3) := dk_198 0 25 (dk_at dksJ1_successor_0 10 rfl rfl)
theorem dJ1_successor_13 : decode cJ1_successor 13 = .ok (.aload_n 0, 1) := dk_42 (dk_at dksJ1_successor_0 13 rfl rfl)
theorem dJ1_successor_14 : decode cJ1_successor 14 = .ok (.getfield 114, 3) := dk_180 0 114 (dk_at dksJ1_successor_0 14 rfl rfl)
theorem dJ1_successor_17 : decode cJ1_successor 17 = .ok (.astore_n 1, 1) := dk_76 (dk_at dksJ1_successor_0 17 rfl rfl)
theorem dJ1_successor_18 : decode cJ1_successor 18 = .ok (.aload_n 1, 1) := dk_43 (dk_at dksJ1_successor_0 18 rfl rfl)
theorem dJ1_successor_19 : decode cJ1_successor 19 = .ok (.getfield 111, 3) := dk_180 0 111 (dk_at dksJ1_successor_0 19 rfl rfl)
theorem dJ1_successor_22 : decode cJ1_successor 22 = .ok (.ifnull 11, 3) := dk_198 0 11 (dk_at dksJ1_successor_1 0 rfl rfl)
theorem dJ1_successor_25 : decode cJ1_successor 25 = .ok (.aload_n 1, 1) := dk_43 (dk_at dksJ1_successor_1 3 rfl rfl)
theorem dJ1_successor_26 : decode cJ1_successor 26 = .ok (.getfield 111, 3) := dk_180 0 111 (dk_at dksJ1_successor_1 4 rfl rfl)
theorem dJ1_successor_29 : decode cJ1_successor 29 = .ok (.astore_n 1, 1) := dk_76 (dk_at dksJ1_successor_1 7 rfl rfl)
theorem dJ1_successor_30 : decode cJ1_successor 30 = .ok (.goto (-12), 3) := dk_167 255 244 (dk_at dksJ1_successor_1 8 rfl rfl)
theorem dJ1_successor_33 : decode cJ1_successor 33 = .ok (.aload_n 1, 1) := dk_43 (dk_at dksJ1_successor_1 11 rfl rfl)
theorem dJ1_successor_34 : decode cJ1_successor 34 = .ok (.areturn, 1) := dk_176 (dk_at dksJ1_successor_1 12 rfl rfl)
theorem dJ1_successor_35 : decode cJ1_successor 35 = .ok (.aload_n 0, 1) := dk_42 (dk_at dksJ1_successor_1 13 rfl rfl)
theorem dJ1_successor_36 : decode cJ1_successor 36 = .ok (.getfield 124, 3) := dk_180 0 124 (dk_at dksJ1_successor_1 14 rfl rfl)
theorem dJ1_successor_39 : decode cJ1_successor 39 = .ok (.astore_n 1, 1) := dk_76 (dk_at dksJ1_successor_1 17 rfl rfl)
theorem dJ1_successor_40 : decode cJ1_successor 40 = .ok (.aload_n 0, 1) := dk_42 (dk_at dksJ1_successor_1 18 rfl rfl)
theorem dJ1_successor_41 : decode cJ1_successor 41 = .ok (.astore_n 2, 1) := dk_77 (dk_at dksJ1_successor_1 19 rfl rfl)
theorem dJ1_successor_42 : decode cJ1_successor 42 = .ok (.aload_n 1, 1) := dk_43 (dk_at dksJ1_successor_1 20 rfl rfl)
theorem dJ1_successor_43 : decode cJ1_successor 43 = .ok (.ifnull 21, 3) := dk_198 0 21 (dk_at dksJ1_successor_1 21 rfl rfl)
theorem dJ1_successor_46 : decode cJ1_successor 46 = .ok (.aload_n 2, 1) := dk_44 (dk_at dksJ1_successor_2 0 rfl rfl)
theorem dJ1_successor_47 : decode cJ1_successor 47 = .ok (.aload_n 1, 1) := dk_43 (dk_at dksJ1_successor_2 1 rfl rfl)
theorem dJ1_successor_48 : decode cJ1_successor 48 = .ok (.getfield 114, 3) := dk_180 0 114 (dk_at dksJ1_successor_2 2 rfl rfl)
theorem dJ1_successor_51 : decode cJ1_successor 51 = .ok (.if_acmp .ne 13, 3) := dk_166 0 13 (dk_at dksJ1_successor_2 5 rfl rfl)
theorem dJ1_successor_54 : decode cJ1_successor 54 = .ok (.aload_n 1, 1) := dk_43 (dk_at dksJ1_successor_2 8 rfl rfl)
theorem dJ1_successor_55 : decode cJ1_successor 55 = .ok (.astore_n 2, 1) := dk_77 (dk_at dksJ1_successor_2 9 rfl rfl)
theorem dJ1_successor_56 : decode cJ1_successor 56 = .ok (.aload_n 1, 1) := dk_43 (dk_at dksJ1_successor_2 10 rfl rfl)
theorem dJ1_successor_57 : decode cJ1_successor 57 = .ok (.getfield 124, 3) := dk_180 0 124 (dk_at dksJ1_successor_2 11 rfl rfl)
theorem dJ1_successor_60 : decode cJ1_successor 60 = .ok (.astore_n 1, 1) := dk_76 (dk_at dksJ1_successor_2 14 rfl rfl)
theorem dJ1_successor_61 : decode cJ1_successor 61 = .ok (.goto (-19), 3) := dk_167 255 237 (dk_at dksJ1_successor_2 15 rfl rfl)
theorem dJ1_successor_64 : decode cJ1_successor 64 = .ok (.aload_n 1, 1) := dk_43 (dk_at dksJ1_successor_2 18 rfl rfl)
theorem dJ1_successor_65 : decode cJ1_successor 65 = .ok (.areturn, 1) := dk_176 (dk_at dksJ1_successor_2 19 rfl rfl)
abbrev kJ1_successor : KX := (cJ1_successor, "java/util/TreeMap", "successor", 3, some (.object "java/util/TreeMap$Entry"), [], 0)
abbrev cJ1_put : ByteArray := prog_75_method_21_code
def yJ1_put : MethodName := ⟨RJ1, "put", "(Ljava/lang/Object;Ljava/lang/Object;)Ljava/lang/Object;"⟩
def dkwJ1_put_0 : List UInt8 := [42, 43, 44, 4, 182, 0, 127, 176]
abbrev dktJ1_put_0 : List UInt8 := dkwJ1_put_0 ++ []
theorem dksJ1_put_0 : cJ1_put.data.toList.drop 0 = dktJ1_put_0 := by decide +kernel
theorem dJ1_put_0 : decode cJ1_put 0 = .ok (.aload_n 0, 1) := dk_42 (dk_at dksJ1_put_0 0 rfl rfl)
theorem dJ1_put_1 : decode cJ1_put 1 = .ok (.aload_n 1, 1) := dk_43 (dk_at dksJ1_put_0 1 rfl rfl)
theorem dJ1_put_2 : decode cJ1_put 2 = .ok (.aload_n 2, 1) := dk_44 (dk_at dksJ1_put_0 2 rfl rfl)
theorem dJ1_put_3 : decode cJ1_put 3 = .ok (.iconst 1, 1) := dk_4 (dk_at dksJ1_put_0 3 rfl rfl)
theorem dJ1_put_4 : decode cJ1_put 4 = .ok (.invokevirtual 127, 3) := dk_182 0 127 (dk_at dksJ1_put_0 4 rfl rfl)
theorem dJ1_put_7 : decode cJ1_put 7 = .ok (.areturn, 1) := dk_176 (dk_at dksJ1_put_0 7 rfl rfl)
abbrev kJ1_put : KX := (cJ1_put, "java/util/TreeMap", "put", 3, some (.object "java/lang/Object"), [], 12)
abbrev cJ1_put_2 : ByteArray := prog_75_method_31_code
def yJ1_put_2 : MethodName := ⟨RJ1, "put", "(Ljava/lang/Object;Ljava/lang/Object;Z)Ljava/lang/Object;"⟩
def dkwJ1_put_2_9 : List UInt8 := [4, 167, 0, 4, 3, 182, 0, 139, 1, 176]
abbrev dktJ1_put_2_9 : List UInt8 := dkwJ1_put_2_9 ++ []
def dkwJ1_put_2_8 : List UInt8 := [25, 4, 44, 181, 0, 58, 25, 9, 176, 25, 4, 199, 255, 181, 42, 43, 44, 25, 6, 21, 5, 156, 0, 7]
abbrev dktJ1_put_2_8 : List UInt8 := dkwJ1_put_2_8 ++ dktJ1_put_2_9
def dkwJ1_put_2_7 : List UInt8 := [180, 0, 114, 58, 4, 167, 0, 28, 25, 4, 180, 0, 58, 58, 9, 29, 154, 0, 8, 25, 9, 199, 0, 9]
abbrev dktJ1_put_2_7 : List UInt8 := dkwJ1_put_2_7 ++ dktJ1_put_2_8
def dkwJ1_put_2_6 : List UInt8 := [21, 5, 156, 0, 13, 25, 4, 180, 0, 111, 58, 4, 167, 0, 43, 21, 5, 158, 0, 13, 25, 4]
abbrev dktJ1_put_2_6 : List UInt8 := dkwJ1_put_2_6 ++ dktJ1_put_2_7
def dkwJ1_put_2_5 : List UInt8 := [192, 0, 99, 58, 8, 25, 4, 58, 6, 25, 8, 25, 4, 180, 0, 105, 185, 0, 107, 2, 0, 54, 5]
abbrev dktJ1_put_2_5 : List UInt8 := dkwJ1_put_2_5 ++ dktJ1_put_2_6
def dkwJ1_put_2_4 : List UInt8 := [25, 4, 44, 181, 0, 58, 25, 8, 176, 25, 4, 199, 255, 180, 167, 0, 92, 43, 184, 0, 95, 87, 43]
abbrev dktJ1_put_2_4 : List UInt8 := dkwJ1_put_2_4 ++ dktJ1_put_2_5
def dkwJ1_put_2_3 : List UInt8 := [180, 0, 114, 58, 4, 167, 0, 28, 25, 4, 180, 0, 58, 58, 8, 29, 154, 0, 8, 25, 8, 199, 0, 9]
abbrev dktJ1_put_2_3 : List UInt8 := dkwJ1_put_2_3 ++ dktJ1_put_2_4
def dkwJ1_put_2_2 : List UInt8 := [54, 5, 21, 5, 156, 0, 13, 25, 4, 180, 0, 111, 58, 4, 167, 0, 43, 21, 5, 158, 0, 13, 25, 4]
abbrev dktJ1_put_2_2 : List UInt8 := dkwJ1_put_2_2 ++ dktJ1_put_2_3
def dkwJ1_put_2_1 : List UInt8 := [58, 7, 25, 7, 198, 0, 85, 25, 4, 58, 6, 25, 7, 43, 25, 4, 180, 0, 105, 185, 0, 117, 3, 0]
abbrev dktJ1_put_2_1 : List UInt8 := dkwJ1_put_2_1 ++ dktJ1_put_2_2
def dkwJ1_put_2_0 : List UInt8 := [42, 180, 0, 101, 58, 4, 25, 4, 199, 0, 11, 42, 43, 44, 182, 0, 135, 1, 176, 42, 180, 0, 16]
abbrev dktJ1_put_2_0 : List UInt8 := dkwJ1_put_2_0 ++ dktJ1_put_2_1
theorem dksJ1_put_2_0 : cJ1_put_2.data.toList.drop 0 = dktJ1_put_2_0 := by decide +kernel
theorem dksJ1_put_2_1 : cJ1_put_2.data.toList.drop 23 = dktJ1_put_2_1 := dk_seg dksJ1_put_2_0 23 rfl rfl
theorem dksJ1_put_2_2 : cJ1_put_2.data.toList.drop 47 = dktJ1_put_2_2 := dk_seg dksJ1_put_2_1 24 rfl rfl
theorem dksJ1_put_2_3 : cJ1_put_2.data.toList.drop 71 = dktJ1_put_2_3 := dk_seg dksJ1_put_2_2 24 rfl rfl
theorem dksJ1_put_2_4 : cJ1_put_2.data.toList.drop 95 = dktJ1_put_2_4 := dk_seg dksJ1_put_2_3 24 rfl rfl
theorem dksJ1_put_2_5 : cJ1_put_2.data.toList.drop 118 = dktJ1_put_2_5 := dk_seg dksJ1_put_2_4 23 rfl rfl
theorem dksJ1_put_2_6 : cJ1_put_2.data.toList.drop 141 = dktJ1_put_2_6 := dk_seg dksJ1_put_2_5 23 rfl rfl
theorem dksJ1_put_2_7 : cJ1_put_2.data.toList.drop 163 = dktJ1_put_2_7 := dk_seg dksJ1_put_2_6 22 rfl rfl
theorem dksJ1_put_2_8 : cJ1_put_2.data.toList.drop 187 = dktJ1_put_2_8 := dk_seg dksJ1_put_2_7 24 rfl rfl
theorem dksJ1_put_2_9 : cJ1_put_2.data.toList.drop 211 = dktJ1_put_2_9 := dk_seg dksJ1_put_2_8 24 rfl rfl
theorem dJ1_put_2_0 : decode cJ1_put_2 0 = .ok (.aload_n 0, 1) := dk_42 (dk_at dksJ1_put_2_0 0 rfl rfl)
theorem dJ1_put_2_1 : decode cJ1_put_2 1 = .ok (.getfield 101, 3) := dk_180 0 101 (dk_at dksJ1_put_2_0 1 rfl rfl)
theorem dJ1_put_2_4 : decode cJ1_put_2 4 = .ok (.astore 4, 2) := dk_58 4 (dk_at dksJ1_put_2_0 4 rfl rfl)
theorem dJ1_put_2_6 : decode cJ1_put_2 6 = .ok (.aload 4, 2) := dk_25 4 (dk_at dksJ1_put_2_0 6 rfl rfl)
theorem dJ1_put_2_8 : decode cJ1_put_2 8 = .ok (.ifnonnull 11, 3) := dk_199 0 11 (dk_at dksJ1_put_2_0 8 rfl rfl)
theorem dJ1_put_2_11 : decode cJ1_put_2 11 = .ok (.aload_n 0, 1) := dk_42 (dk_at dksJ1_put_2_0 11 rfl rfl)
theorem dJ1_put_2_12 : decode cJ1_put_2 12 = .ok (.aload_n 1, 1) := dk_43 (dk_at dksJ1_put_2_0 12 rfl rfl)
theorem dJ1_put_2_13 : decode cJ1_put_2 13 = .ok (.aload_n 2, 1) := dk_44 (dk_at dksJ1_put_2_0 13 rfl rfl)
theorem dJ1_put_2_14 : decode cJ1_put_2 14 = .ok (.invokevirtual 135, 3) := dk_182 0 135 (dk_at dksJ1_put_2_0 14 rfl rfl)
theorem dJ1_put_2_17 : decode cJ1_put_2 17 = .ok (.aconst_null, 1) := dk_1 (dk_at dksJ1_put_2_0 17 rfl rfl)
theorem dJ1_put_2_18 : decode cJ1_put_2 18 = .ok (.areturn, 1) := dk_176 (dk_at dksJ1_put_2_0 18 rfl rfl)
theorem dJ1_put_2_19 : decode cJ1_put_2 19 = .ok (.aload_n 0, 1) := dk_42 (dk_at dksJ1_put_2_0 19 rfl rfl)
theorem dJ1_put_2_20 : decode cJ1_put_2 20 = .ok (.getfield 16, 3) := dk_180 0 16 (dk_at dksJ1_put_2_0 20 rfl rfl)
theorem dJ1_put_2_23 : decode cJ1_put_2 23 = .ok (.astore 7, 2) := dk_58 7 (dk_at dksJ1_put_2_1 0 rfl rfl)
theorem dJ1_put_2_25 : decode cJ1_put_2 25 = .ok (.aload 7, 2) := dk_25 7 (dk_at dksJ1_put_2_1 2 rfl rfl)
theorem dJ1_put_2_27 : decode cJ1_put_2 27 = .ok (.ifnull 85, 3) := dk_198 0 85 (dk_at dksJ1_put_2_1 4 rfl rfl)
theorem dJ1_put_2_30 : decode cJ1_put_2 30 = .ok (.aload 4, 2) := dk_25 4 (dk_at dksJ1_put_2_1 7 rfl rfl)
theorem dJ1_put_2_32 : decode cJ1_put_2 32 = .ok (.astore 6, 2) := dk_58 6 (dk_at dksJ1_put_2_1 9 rfl rfl)
theorem dJ1_put_2_34 : decode cJ1_put_2 34 = .ok (.aload 7, 2) := dk_25 7 (dk_at dksJ1_put_2_1 11 rfl rfl)
theorem dJ1_put_2_36 : decode cJ1_put_2 36 = .ok (.aload_n 1, 1) := dk_43 (dk_at dksJ1_put_2_1 13 rfl rfl)
theorem dJ1_put_2_37 : decode cJ1_put_2 37 = .ok (.aload 4, 2) := dk_25 4 (dk_at dksJ1_put_2_1 14 rfl rfl)
theorem dJ1_put_2_39 : decode cJ1_put_2 39 = .ok (.getfield 105, 3) := dk_180 0 105 (dk_at dksJ1_put_2_1 16 rfl rfl)
theorem dJ1_put_2_42 : decode cJ1_put_2 42 = .ok (.invokeinterface 117 3, 5) := by decide +kernel
theorem dJ1_put_2_47 : decode cJ1_put_2 47 = .ok (.istore 5, 2) := dk_54 5 (dk_at dksJ1_put_2_2 0 rfl rfl)
theorem dJ1_put_2_49 : decode cJ1_put_2 49 = .ok (.iload 5, 2) := dk_21 5 (dk_at dksJ1_put_2_2 2 rfl rfl)
theorem dJ1_put_2_51 : decode cJ1_put_2 51 = .ok (.ifCond .ge 13, 3) := dk_156 0 13 (dk_at dksJ1_put_2_2 4 rfl rfl)
theorem dJ1_put_2_54 : decode cJ1_put_2 54 = .ok (.aload 4, 2) := dk_25 4 (dk_at dksJ1_put_2_2 7 rfl rfl)
theorem dJ1_put_2_56 : decode cJ1_put_2 56 = .ok (.getfield 111, 3) := dk_180 0 111 (dk_at dksJ1_put_2_2 9 rfl rfl)
theorem dJ1_put_2_59 : decode cJ1_put_2 59 = .ok (.astore 4, 2) := dk_58 4 (dk_at dksJ1_put_2_2 12 rfl rfl)
theorem dJ1_put_2_61 : decode cJ1_put_2 61 = .ok (.goto 43, 3) := dk_167 0 43 (dk_at dksJ1_put_2_2 14 rfl rfl)
theorem dJ1_put_2_64 : decode cJ1_put_2 64 = .ok (.iload 5, 2) := dk_21 5 (dk_at dksJ1_put_2_2 17 rfl rfl)
theorem dJ1_put_2_66 : decode cJ1_put_2 66 = .ok (.ifCond .le 13, 3) := dk_158 0 13 (dk_at dksJ1_put_2_2 19 rfl rfl)
theorem dJ1_put_2_69 : decode cJ1_put_2 69 = .ok (.aload 4, 2) := dk_25 4 (dk_at dksJ1_put_2_2 22 rfl rfl)
theorem dJ1_put_2_71 : decode cJ1_put_2 71 = .ok (.getfield 114, 3) := dk_180 0 114 (dk_at dksJ1_put_2_3 0 rfl rfl)
theorem dJ1_put_2_74 : decode cJ1_put_2 74 = .ok (.astore 4, 2) := dk_58 4 (dk_at dksJ1_put_2_3 3 rfl rfl)
theorem dJ1_put_2_76 : decode cJ1_put_2 76 = .ok (.goto 28, 3) := dk_167 0 28 (dk_at dksJ1_put_2_3 5 rfl rfl)
theorem dJ1_put_2_79 : decode cJ1_put_2 79 = .ok (.aload 4, 2) := dk_25 4 (dk_at dksJ1_put_2_3 8 rfl rfl)
theorem dJ1_put_2_81 : decode cJ1_put_2 81 = .ok (.getfield 58, 3) := dk_180 0 58 (dk_at dksJ1_put_2_3 10 rfl rfl)
theorem dJ1_put_2_84 : decode cJ1_put_2 84 = .ok (.astore 8, 2) := dk_58 8 (dk_at dksJ1_put_2_3 13 rfl rfl)
theorem dJ1_put_2_86 : decode cJ1_put_2 86 = .ok (.iload_n 3, 1) := dk_29 (dk_at dksJ1_put_2_3 15 rfl rfl)
theorem dJ1_put_2_87 : decode cJ1_put_2 87 = .ok (.ifCond .ne 8, 3) := dk_154 0 8 (dk_at dksJ1_put_2_3 16 rfl rfl)
theorem dJ1_put_2_90 : decode cJ1_put_2 90 = .ok (.aload 8, 2) := dk_25 8 (dk_at dksJ1_put_2_3 19 rfl rfl)
theorem dJ1_put_2_92 : decode cJ1_put_2 92 = .ok (.ifnonnull 9, 3) := dk_199 0 9 (dk_at dksJ1_put_2_3 21 rfl rfl)
theorem dJ1_put_2_95 : decode cJ1_put_2 95 = .ok (.aload 4, 2) := dk_25 4 (dk_at dksJ1_put_2_4 0 rfl rfl)
theorem dJ1_put_2_97 : decode cJ1_put_2 97 = .ok (.aload_n 2, 1) := dk_44 (dk_at dksJ1_put_2_4 2 rfl rfl)
theorem dJ1_put_2_98 : decode cJ1_put_2 98 = .ok (.putfield 58, 3) := dk_181 0 58 (dk_at dksJ1_put_2_4 3 rfl rfl)
theorem dJ1_put_2_101 : decode cJ1_put_2 101 = .ok (.aload 8, 2) := dk_25 8 (dk_at dksJ1_put_2_4 6 rfl rfl)
theorem dJ1_put_2_103 : decode cJ1_put_2 103 = .ok (.areturn, 1) := dk_176 (dk_at dksJ1_put_2_4 8 rfl rfl)
theorem dJ1_put_2_104 : decode cJ1_put_2 104 = .ok (.aload 4, 2) := dk_25 4 (dk_at dksJ1_put_2_4 9 rfl rfl)
theorem dJ1_put_2_106 : decode cJ1_put_2 106 = .ok (.ifnonnull (-76), 3) := dk_199 255 180 (dk_at dksJ1_put_2_4 11 rfl rfl)
theorem dJ1_put_2_109 : decode cJ1_put_2 109 = .ok (.goto 92, 3) := dk_167 0 92 (dk_at dksJ1_put_2_4 14 rfl rfl)
theorem dJ1_put_2_112 : decode cJ1_put_2 112 = .ok (.aload_n 1, 1) := dk_43 (dk_at dksJ1_put_2_4 17 rfl rfl)
theorem dJ1_put_2_113 : decode cJ1_put_2 113 = .ok (.invokestatic 95, 3) := dk_184 0 95 (dk_at dksJ1_put_2_4 18 rfl rfl)
theorem dJ1_put_2_116 : decode cJ1_put_2 116 = .ok (.pop, 1) := dk_87 (dk_at dksJ1_put_2_4 21 rfl rfl)
theorem dJ1_put_2_117 : decode cJ1_put_2 117 = .ok (.aload_n 1, 1) := dk_43 (dk_at dksJ1_put_2_4 22 rfl rfl)
theorem dJ1_put_2_118 : decode cJ1_put_2 118 = .ok (.checkcast 99, 3) := dk_192 0 99 (dk_at dksJ1_put_2_5 0 rfl rfl)
theorem dJ1_put_2_121 : decode cJ1_put_2 121 = .ok (.astore 8, 2) := dk_58 8 (dk_at dksJ1_put_2_5 3 rfl rfl)
theorem dJ1_put_2_123 : decode cJ1_put_2 123 = .ok (.aload 4, 2) := dk_25 4 (dk_at dksJ1_put_2_5 5 rfl rfl)
theorem dJ1_put_2_125 : decode cJ1_put_2 125 = .ok (.astore 6, 2) := dk_58 6 (dk_at dksJ1_put_2_5 7 rfl rfl)
theorem dJ1_put_2_127 : decode cJ1_put_2 127 = .ok (.aload 8, 2) := dk_25 8 (dk_at dksJ1_put_2_5 9 rfl rfl)
theorem dJ1_put_2_129 : decode cJ1_put_2 129 = .ok (.aload 4, 2) := dk_25 4 (dk_at dksJ1_put_2_5 11 rfl rfl)
theorem dJ1_put_2_131 : decode cJ1_put_2 131 = .ok (.getfield 105, 3) := dk_180 0 105 (dk_at dksJ1_put_2_5 13 rfl rfl)
theorem dJ1_put_2_134 : decode cJ1_put_2 134 = .ok (.invokeinterface 107 2, 5) := by decide +kernel
theorem dJ1_put_2_139 : decode cJ1_put_2 139 = .ok (.istore 5, 2) := dk_54 5 (dk_at dksJ1_put_2_5 21 rfl rfl)
theorem dJ1_put_2_141 : decode cJ1_put_2 141 = .ok (.iload 5, 2) := dk_21 5 (dk_at dksJ1_put_2_6 0 rfl rfl)
theorem dJ1_put_2_143 : decode cJ1_put_2 143 = .ok (.ifCond .ge 13, 3) := dk_156 0 13 (dk_at dksJ1_put_2_6 2 rfl rfl)
theorem dJ1_put_2_146 : decode cJ1_put_2 146 = .ok (.aload 4, 2) := dk_25 4 (dk_at dksJ1_put_2_6 5 rfl rfl)
theorem dJ1_put_2_148 : decode cJ1_put_2 148 = .ok (.getfield 111, 3) := dk_180 0 111 (dk_at dksJ1_put_2_6 7 rfl rfl)
theorem dJ1_put_2_151 : decode cJ1_put_2 151 = .ok (.astore 4, 2) := dk_58 4 (dk_at dksJ1_put_2_6 10 rfl rfl)
theorem dJ1_put_2_153 : decode cJ1_put_2 153 = .ok (.goto 43, 3) := dk_167 0 43 (dk_at dksJ1_put_2_6 12 rfl rfl)
theorem dJ1_put_2_156 : decode cJ1_put_2 156 = .ok (.iload 5, 2) := dk_21 5 (dk_at dksJ1_put_2_6 15 rfl rfl)
theorem dJ1_put_2_158 : decode cJ1_put_2 158 = .ok (.ifCond .le 13, 3) := dk_158 0 13 (dk_at dksJ1_put_2_6 17 rfl rfl)
theorem dJ1_put_2_161 : decode cJ1_put_2 161 = .ok (.aload 4, 2) := dk_25 4 (dk_at dksJ1_put_2_6 20 rfl rfl)
theorem dJ1_put_2_163 : decode cJ1_put_2 163 = .ok (.getfield 114, 3) := dk_180 0 114 (dk_at dksJ1_put_2_7 0 rfl rfl)
theorem dJ1_put_2_166 : decode cJ1_put_2 166 = .ok (.astore 4, 2) := dk_58 4 (dk_at dksJ1_put_2_7 3 rfl rfl)
theorem dJ1_put_2_168 : decode cJ1_put_2 168 = .ok (.goto 28, 3) := dk_167 0 28 (dk_at dksJ1_put_2_7 5 rfl rfl)
theorem dJ1_put_2_171 : decode cJ1_put_2 171 = .ok (.aload 4, 2) := dk_25 4 (dk_at dksJ1_put_2_7 8 rfl rfl)
theorem dJ1_put_2_173 : decode cJ1_put_2 173 = .ok (.getfield 58, 3) := dk_180 0 58 (dk_at dksJ1_put_2_7 10 rfl rfl)
theorem dJ1_put_2_176 : decode cJ1_put_2 176 = .ok (.astore 9, 2) := dk_58 9 (dk_at dksJ1_put_2_7 13 rfl rfl)
theorem dJ1_put_2_178 : decode cJ1_put_2 178 = .ok (.iload_n 3, 1) := dk_29 (dk_at dksJ1_put_2_7 15 rfl rfl)
theorem dJ1_put_2_179 : decode cJ1_put_2 179 = .ok (.ifCond .ne 8, 3) := dk_154 0 8 (dk_at dksJ1_put_2_7 16 rfl rfl)
theorem dJ1_put_2_182 : decode cJ1_put_2 182 = .ok (.aload 9, 2) := dk_25 9 (dk_at dksJ1_put_2_7 19 rfl rfl)
theorem dJ1_put_2_184 : decode cJ1_put_2 184 = .ok (.ifnonnull 9, 3) := dk_199 0 9 (dk_at dksJ1_put_2_7 21 rfl rfl)
theorem dJ1_put_2_187 : decode cJ1_put_2 187 = .ok (.aload 4, 2) := dk_25 4 (dk_at dksJ1_put_2_8 0 rfl rfl)
theorem dJ1_put_2_189 : decode cJ1_put_2 189 = .ok (.aload_n 2, 1) := dk_44 (dk_at dksJ1_put_2_8 2 rfl rfl)
theorem dJ1_put_2_190 : decode cJ1_put_2 190 = .ok (.putfield 58, 3) := dk_181 0 58 (dk_at dksJ1_put_2_8 3 rfl rfl)
theorem dJ1_put_2_193 : decode cJ1_put_2 193 = .ok (.aload 9, 2) := dk_25 9 (dk_at dksJ1_put_2_8 6 rfl rfl)
theorem dJ1_put_2_195 : decode cJ1_put_2 195 = .ok (.areturn, 1) := dk_176 (dk_at dksJ1_put_2_8 8 rfl rfl)
theorem dJ1_put_2_196 : decode cJ1_put_2 196 = .ok (.aload 4, 2) := dk_25 4 (dk_at dksJ1_put_2_8 9 rfl rfl)
theorem dJ1_put_2_198 : decode cJ1_put_2 198 = .ok (.ifnonnull (-75), 3) := dk_199 255 181 (dk_at dksJ1_put_2_8 11 rfl rfl)
theorem dJ1_put_2_201 : decode cJ1_put_2 201 = .ok (.aload_n 0, 1) := dk_42 (dk_at dksJ1_put_2_8 14 rfl rfl)
theorem dJ1_put_2_202 : decode cJ1_put_2 202 = .ok (.aload_n 1, 1) := dk_43 (dk_at dksJ1_put_2_8 15 rfl rfl)
theorem dJ1_put_2_203 : decode cJ1_put_2 203 = .ok (.aload_n 2, 1) := dk_44 (dk_at dksJ1_put_2_8 16 rfl rfl)
theorem dJ1_put_2_204 : decode cJ1_put_2 204 = .ok (.aload 6, 2) := dk_25 6 (dk_at dksJ1_put_2_8 17 rfl rfl)
theorem dJ1_put_2_206 : decode cJ1_put_2 206 = .ok (.iload 5, 2) := dk_21 5 (dk_at dksJ1_put_2_8 19 rfl rfl)
theorem dJ1_put_2_208 : decode cJ1_put_2 208 = .ok (.ifCond .ge 7, 3) := dk_156 0 7 (dk_at dksJ1_put_2_8 21 rfl rfl)
theorem dJ1_put_2_211 : decode cJ1_put_2 211 = .ok (.iconst 1, 1) := dk_4 (dk_at dksJ1_put_2_9 0 rfl rfl)
theorem dJ1_put_2_212 : decode cJ1_put_2 212 = .ok (.goto 4, 3) := dk_167 0 4 (dk_at dksJ1_put_2_9 1 rfl rfl)
theorem dJ1_put_2_215 : decode cJ1_put_2 215 = .ok (.iconst 0, 1) := dk_3 (dk_at dksJ1_put_2_9 4 rfl rfl)
theorem dJ1_put_2_216 : decode cJ1_put_2 216 = .ok (.invokevirtual 139, 3) := dk_182 0 139 (dk_at dksJ1_put_2_9 5 rfl rfl)
theorem dJ1_put_2_219 : decode cJ1_put_2 219 = .ok (.aconst_null, 1) := dk_1 (dk_at dksJ1_put_2_9 8 rfl rfl)
theorem dJ1_put_2_220 : decode cJ1_put_2 220 = .ok (.areturn, 1) := dk_176 (dk_at dksJ1_put_2_9 9 rfl rfl)
abbrev kJ1_put_2 : KX := (cJ1_put_2, "java/util/TreeMap", "put", 10, some (.object "java/lang/Object"), [], 11)
abbrev cJ1_addEntryToEmptyMap : ByteArray := prog_75_method_30_code
def yJ1_addEntryToEmptyMap : MethodName := ⟨RJ1, "addEntryToEmptyMap", "(Ljava/lang/Object;Ljava/lang/Object;)V"⟩
def dkwJ1_addEntryToEmptyMap_1 : List UInt8 := [181, 0, 7, 42, 89, 180, 0, 13, 4, 96, 181, 0, 13, 177]
abbrev dktJ1_addEntryToEmptyMap_1 : List UInt8 := dkwJ1_addEntryToEmptyMap_1 ++ []
def dkwJ1_addEntryToEmptyMap_0 : List UInt8 := [42, 43, 43, 182, 0, 123, 87, 42, 187, 0, 59, 89, 43, 44, 1, 183, 0, 167, 181, 0, 101, 42, 4]
abbrev dktJ1_addEntryToEmptyMap_0 : List UInt8 := dkwJ1_addEntryToEmptyMap_0 ++ dktJ1_addEntryToEmptyMap_1
theorem dksJ1_addEntryToEmptyMap_0 : cJ1_addEntryToEmptyMap.data.toList.drop 0 = dktJ1_addEntryToEmptyMap_0 := by decide +kernel
theorem dksJ1_addEntryToEmptyMap_1 : cJ1_addEntryToEmptyMap.data.toList.drop 23 = dktJ1_addEntryToEmptyMap_1 := dk_seg dksJ1_addEntryToEmptyMap_0 23 rfl rfl
theorem dJ1_addEntryToEmptyMap_0 : decode cJ1_addEntryToEmptyMap 0 = .ok (.aload_n 0, 1) := dk_42 (dk_at dksJ1_addEntryToEmptyMap_0 0 rfl rfl)
theorem dJ1_addEntryToEmptyMap_1 : decode cJ1_addEntryToEmptyMap 1 = .ok (.aload_n 1, 1) := dk_43 (dk_at dksJ1_addEntryToEmptyMap_0 1 rfl rfl)
theorem dJ1_addEntryToEmptyMap_2 : decode cJ1_addEntryToEmptyMap 2 = .ok (.aload_n 1, 1) := dk_43 (dk_at dksJ1_addEntryToEmptyMap_0 2 rfl rfl)
theorem dJ1_addEntryToEmptyMap_3 : decode cJ1_addEntryToEmptyMap 3 = .ok (.invokevirtual 123, 3) := dk_182 0 123 (dk_at dksJ1_addEntryToEmptyMap_0 3 rfl rfl)
theorem dJ1_addEntryToEmptyMap_6 : decode cJ1_addEntryToEmptyMap 6 = .ok (.pop, 1) := dk_87 (dk_at dksJ1_addEntryToEmptyMap_0 6 rfl rfl)
theorem dJ1_addEntryToEmptyMap_7 : decode cJ1_addEntryToEmptyMap 7 = .ok (.aload_n 0, 1) := dk_42 (dk_at dksJ1_addEntryToEmptyMap_0 7 rfl rfl)
theorem dJ1_addEntryToEmptyMap_8 : decode cJ1_addEntryToEmptyMap 8 = .ok (.new 59, 3) := dk_187 0 59 (dk_at dksJ1_addEntryToEmptyMap_0 8 rfl rfl)
theorem dJ1_addEntryToEmptyMap_11 : decode cJ1_addEntryToEmptyMap 11 = .ok (.dup, 1) := dk_89 (dk_at dksJ1_addEntryToEmptyMap_0 11 rfl rfl)
theorem dJ1_addEntryToEmptyMap_12 : decode cJ1_addEntryToEmptyMap 12 = .ok (.aload_n 1, 1) := dk_43 (dk_at dksJ1_addEntryToEmptyMap_0 12 rfl rfl)
theorem dJ1_addEntryToEmptyMap_13 : decode cJ1_addEntryToEmptyMap 13 = .ok (.aload_n 2, 1) := dk_44 (dk_at dksJ1_addEntryToEmptyMap_0 13 rfl rfl)
theorem dJ1_addEntryToEmptyMap_14 : decode cJ1_addEntryToEmptyMap 14 = .ok (.aconst_null, 1) := dk_1 (dk_at dksJ1_addEntryToEmptyMap_0 14 rfl rfl)
theorem dJ1_addEntryToEmptyMap_15 : decode cJ1_addEntryToEmptyMap 15 = .ok (.invokespecial 167, 3) := dk_183 0 167 (dk_at dksJ1_addEntryToEmptyMap_0 15 rfl rfl)
theorem dJ1_addEntryToEmptyMap_18 : decode cJ1_addEntryToEmptyMap 18 = .ok (.putfield 101, 3) := dk_181 0 101 (dk_at dksJ1_addEntryToEmptyMap_0 18 rfl rfl)
theorem dJ1_addEntryToEmptyMap_21 : decode cJ1_addEntryToEmptyMap 21 = .ok (.aload_n 0, 1) := dk_42 (dk_at dksJ1_addEntryToEmptyMap_0 21 rfl rfl)
theorem dJ1_addEntryToEmptyMap_22 : decode cJ1_addEntryToEmptyMap 22 = .ok (.iconst 1, 1) := dk_4 (dk_at dksJ1_addEntryToEmptyMap_0 22 rfl rfl)
theorem dJ1_addEntryToEmptyMap_23 : decode cJ1_addEntryToEmptyMap 23 = .ok (.putfield 7, 3) := dk_181 0 7 (dk_at dksJ1_addEntryToEmptyMap_1 0 rfl rfl)
theorem dJ1_addEntryToEmptyMap_26 : decode cJ1_addEntryToEmptyMap 26 = .ok (.aload_n 0, 1) := dk_42 (dk_at dksJ1_addEntryToEmptyMap_1 3 rfl rfl)
theorem dJ1_addEntryToEmptyMap_27 : decode cJ1_addEntryToEmptyMap 27 = .ok (.dup, 1) := dk_89 (dk_at dksJ1_addEntryToEmptyMap_1 4 rfl rfl)
theorem dJ1_addEntryToEmptyMap_28 : decode cJ1_addEntryToEmptyMap 28 = .ok (.getfield 13, 3) := dk_180 0 13 (dk_at dksJ1_addEntryToEmptyMap_1 5 rfl rfl)
theorem dJ1_addEntryToEmptyMap_31 : decode cJ1_addEntryToEmptyMap 31 = .ok (.iconst 1, 1) := dk_4 (dk_at dksJ1_addEntryToEmptyMap_1 8 rfl rfl)
theorem dJ1_addEntryToEmptyMap_32 : decode cJ1_addEntryToEmptyMap 32 = .ok (.iadd, 1) := dk_96 (dk_at dksJ1_addEntryToEmptyMap_1 9 rfl rfl)
theorem dJ1_addEntryToEmptyMap_33 : decode cJ1_addEntryToEmptyMap 33 = .ok (.putfield 13, 3) := dk_181 0 13 (dk_at dksJ1_addEntryToEmptyMap_1 10 rfl rfl)
theorem dJ1_addEntryToEmptyMap_36 : decode cJ1_addEntryToEmptyMap 36 = .ok (.return_, 1) := dk_177 (dk_at dksJ1_addEntryToEmptyMap_1 13 rfl rfl)
abbrev kJ1_addEntryToEmptyMap : KX := (cJ1_addEntryToEmptyMap, "java/util/TreeMap", "addEntryToEmptyMap", 3, none, [], 10)
abbrev cJ1_addEntry : ByteArray := prog_75_method_29_code
def yJ1_addEntry : MethodName := ⟨RJ1, "addEntry", "(Ljava/lang/Object;Ljava/lang/Object;Ljava/util/TreeMap$Entry;Z)V"⟩
def dkwJ1_addEntry_2 : List UInt8 := [181, 0, 7, 42, 89, 180, 0, 13, 4, 96, 181, 0, 13, 177]
abbrev dktJ1_addEntry_2 : List UInt8 := dkwJ1_addEntry_2 ++ []
def dkwJ1_addEntry_1 : List UInt8 := [167, 0, 9, 45, 25, 5, 181, 0, 114, 42, 25, 5, 182, 0, 170, 42, 89, 180, 0, 7, 4, 96]
abbrev dktJ1_addEntry_1 : List UInt8 := dkwJ1_addEntry_1 ++ dktJ1_addEntry_2
def dkwJ1_addEntry_0 : List UInt8 := [187, 0, 59, 89, 43, 44, 45, 183, 0, 167, 58, 5, 21, 4, 153, 0, 12, 45, 25, 5, 181, 0, 111]
abbrev dktJ1_addEntry_0 : List UInt8 := dkwJ1_addEntry_0 ++ dktJ1_addEntry_1
theorem dksJ1_addEntry_0 : cJ1_addEntry.data.toList.drop 0 = dktJ1_addEntry_0 := by decide +kernel
theorem dksJ1_addEntry_1 : cJ1_addEntry.data.toList.drop 23 = dktJ1_addEntry_1 := dk_seg dksJ1_addEntry_0 23 rfl rfl
theorem dksJ1_addEntry_2 : cJ1_addEntry.data.toList.drop 45 = dktJ1_addEntry_2 := dk_seg dksJ1_addEntry_1 22 rfl rfl
theorem dJ1_addEntry_0 : decode cJ1_addEntry 0 = .ok (.new 59, 3) := dk_187 0 59 (dk_at dksJ1_addEntry_0 0 rfl rfl)
theorem dJ1_addEntry_3 : decode cJ1_addEntry 3 = .ok (.dup, 1) := dk_89 (dk_at dksJ1_addEntry_0 3 rfl rfl)
theorem dJ1_addEntry_4 : decode cJ1_addEntry 4 = .ok (.aload_n 1, 1) := dk_43 (dk_at dksJ1_addEntry_0 4 rfl rfl)
theorem dJ1_addEntry_5 : decode cJ1_addEntry 5 = .ok (.aload_n 2, 1) := dk_44 (dk_at dksJ1_addEntry_0 5 rfl rfl)
theorem dJ1_addEntry_6 : decode cJ1_addEntry 6 = .ok (.aload_n 3, 1) := dk_45 (dk_at dksJ1_addEntry_0 6 rfl rfl)
theorem dJ1_addEntry_7 : decode cJ1_addEntry 7 = .ok (.invokespecial 167, 3) := dk_183 0 167 (dk_at dksJ1_addEntry_0 7 rfl rfl)
theorem dJ1_addEntry_10 : decode cJ1_addEntry 10 = .ok (.astore 5, 2) := dk_58 5 (dk_at dksJ1_addEntry_0 10 rfl rfl)
theorem dJ1_addEntry_12 : decode cJ1_addEntry 12 = .ok (.iload 4, 2) := dk_21 4 (dk_at dksJ1_addEntry_0 12 rfl rfl)
theorem dJ1_addEntry_14 : decode cJ1_addEntry 14 = .ok (.ifCond .eq 12, 3) := dk_153 0 12 (dk_at dksJ1_addEntry_0 14 rfl rfl)
theorem dJ1_addEntry_17 : decode cJ1_addEntry 17 = .ok (.aload_n 3, 1) := dk_45 (dk_at dksJ1_addEntry_0 17 rfl rfl)
theorem dJ1_addEntry_18 : decode cJ1_addEntry 18 = .ok (.aload 5, 2) := dk_25 5 (dk_at dksJ1_addEntry_0 18 rfl rfl)
theorem dJ1_addEntry_20 : decode cJ1_addEntry 20 = .ok (.putfield 111, 3) := dk_181 0 111 (dk_at dksJ1_addEntry_0 20 rfl rfl)
theorem dJ1_addEntry_23 : decode cJ1_addEntry 23 = .ok (.goto 9, 3) := dk_167 0 9 (dk_at dksJ1_addEntry_1 0 rfl rfl)
theorem dJ1_addEntry_26 : decode cJ1_addEntry 26 = .ok (.aload_n 3, 1) := dk_45 (dk_at dksJ1_addEntry_1 3 rfl rfl)
theorem dJ1_addEntry_27 : decode cJ1_addEntry 27 = .ok (.aload 5, 2) := dk_25 5 (dk_at dksJ1_addEntry_1 4 rfl rfl)
theorem dJ1_addEntry_29 : decode cJ1_addEntry 29 = .ok (.putfield 114, 3) := dk_181 0 114 (dk_at dksJ1_addEntry_1 6 rfl rfl)
theorem dJ1_addEntry_32 : decode cJ1_addEntry 32 = .ok (.aload_n 0, 1) := dk_42 (dk_at dksJ1_addEntry_1 9 rfl rfl)
theorem dJ1_addEntry_33 : decode cJ1_addEntry 33 = .ok (.aload 5, 2) := dk_25 5 (dk_at dksJ1_addEntry_1 10 rfl rfl)
theorem dJ1_addEntry_35 : decode cJ1_addEntry 35 = .ok (.invokevirtual 170, 3) := dk_182 0 170 (dk_at dksJ1_addEntry_1 12 rfl rfl)
theorem dJ1_addEntry_38 : decode cJ1_addEntry 38 = .ok (.aload_n 0, 1) := dk_42 (dk_at dksJ1_addEntry_1 15 rfl rfl)
theorem dJ1_addEntry_39 : decode cJ1_addEntry 39 = .ok (.dup, 1) := dk_89 (dk_at dksJ1_addEntry_1 16 rfl rfl)
theorem dJ1_addEntry_40 : decode cJ1_addEntry 40 = .ok (.getfield 7, 3) := dk_180 0 7 (dk_at dksJ1_addEntry_1 17 rfl rfl)
theorem dJ1_addEntry_43 : decode cJ1_addEntry 43 = .ok (.iconst 1, 1) := dk_4 (dk_at dksJ1_addEntry_1 20 rfl rfl)
theorem dJ1_addEntry_44 : decode cJ1_addEntry 44 = .ok (.iadd, 1) := dk_96 (dk_at dksJ1_addEntry_1 21 rfl rfl)
theorem dJ1_addEntry_45 : decode cJ1_addEntry 45 = .ok (.putfield 7, 3) := dk_181 0 7 (dk_at dksJ1_addEntry_2 0 rfl rfl)
theorem dJ1_addEntry_48 : decode cJ1_addEntry 48 = .ok (.aload_n 0, 1) := dk_42 (dk_at dksJ1_addEntry_2 3 rfl rfl)
theorem dJ1_addEntry_49 : decode cJ1_addEntry 49 = .ok (.dup, 1) := dk_89 (dk_at dksJ1_addEntry_2 4 rfl rfl)
theorem dJ1_addEntry_50 : decode cJ1_addEntry 50 = .ok (.getfield 13, 3) := dk_180 0 13 (dk_at dksJ1_addEntry_2 5 rfl rfl)
theorem dJ1_addEntry_53 : decode cJ1_addEntry 53 = .ok (.iconst 1, 1) := dk_4 (dk_at dksJ1_addEntry_2 8 rfl rfl)
theorem dJ1_addEntry_54 : decode cJ1_addEntry 54 = .ok (.iadd, 1) := dk_96 (dk_at dksJ1_addEntry_2 9 rfl rfl)
theorem dJ1_addEntry_55 : decode cJ1_addEntry 55 = .ok (.putfield 13, 3) := dk_181 0 13 (dk_at dksJ1_addEntry_2 10 rfl rfl)
theorem dJ1_addEntry_58 : decode cJ1_addEntry 58 = .ok (.return_, 1) := dk_177 (dk_at dksJ1_addEntry_2 13 rfl rfl)
abbrev kJ1_addEntry : KX := (cJ1_addEntry, "java/util/TreeMap", "addEntry", 6, none, [], 2)
abbrev cJ1_fixAfterInsertion : ByteArray := prog_75_method_83_code
def yJ1_fixAfterInsertion : MethodName := ⟨RJ1, "fixAfterInsertion", "(Ljava/util/TreeMap$Entry;)V"⟩
def dkwJ1_fixAfterInsertion_11 : List UInt8 := [42, 180, 0, 101, 4, 181, 1, 34, 177]
abbrev dktJ1_fixAfterInsertion_11 : List UInt8 := dkwJ1_fixAfterInsertion_11 ++ []
def dkwJ1_fixAfterInsertion_10 : List UInt8 := [184, 1, 38, 184, 1, 38, 3, 184, 1, 51, 42, 43, 184, 1, 38, 184, 1, 38, 182, 1, 55, 167, 255, 6]
abbrev dktJ1_fixAfterInsertion_10 : List UInt8 := dkwJ1_fixAfterInsertion_10 ++ dktJ1_fixAfterInsertion_11
def dkwJ1_fixAfterInsertion_9 : List UInt8 := [166, 0, 13, 43, 184, 1, 38, 76, 42, 43, 182, 1, 58, 43, 184, 1, 38, 4, 184, 1, 51, 43]
abbrev dktJ1_fixAfterInsertion_9 : List UInt8 := dkwJ1_fixAfterInsertion_9 ++ dktJ1_fixAfterInsertion_10
def dkwJ1_fixAfterInsertion_8 : List UInt8 := [184, 1, 51, 43, 184, 1, 38, 184, 1, 38, 76, 167, 0, 54, 43, 43, 184, 1, 38, 184, 1, 41]
abbrev dktJ1_fixAfterInsertion_8 : List UInt8 := dkwJ1_fixAfterInsertion_8 ++ dktJ1_fixAfterInsertion_9
def dkwJ1_fixAfterInsertion_7 : List UInt8 := [154, 0, 38, 43, 184, 1, 38, 4, 184, 1, 51, 44, 4, 184, 1, 51, 43, 184, 1, 38, 184, 1, 38, 3]
abbrev dktJ1_fixAfterInsertion_7 : List UInt8 := dkwJ1_fixAfterInsertion_7 ++ dktJ1_fixAfterInsertion_8
def dkwJ1_fixAfterInsertion_6 : List UInt8 := [184, 1, 38, 182, 1, 58, 167, 255, 113, 43, 184, 1, 38, 184, 1, 38, 184, 1, 41, 77, 44, 184, 1, 47]
abbrev dktJ1_fixAfterInsertion_6 : List UInt8 := dkwJ1_fixAfterInsertion_6 ++ dktJ1_fixAfterInsertion_7
def dkwJ1_fixAfterInsertion_5 : List UInt8 := [43, 184, 1, 38, 4, 184, 1, 51, 43, 184, 1, 38, 184, 1, 38, 3, 184, 1, 51, 42, 43, 184, 1, 38]
abbrev dktJ1_fixAfterInsertion_5 : List UInt8 := dkwJ1_fixAfterInsertion_5 ++ dktJ1_fixAfterInsertion_6
def dkwJ1_fixAfterInsertion_4 : List UInt8 := [167, 0, 54, 43, 43, 184, 1, 38, 184, 1, 44, 166, 0, 13, 43, 184, 1, 38, 76, 42, 43, 182, 1, 55]
abbrev dktJ1_fixAfterInsertion_4 : List UInt8 := dkwJ1_fixAfterInsertion_4 ++ dktJ1_fixAfterInsertion_5
def dkwJ1_fixAfterInsertion_3 : List UInt8 := [184, 1, 51, 43, 184, 1, 38, 184, 1, 38, 3, 184, 1, 51, 43, 184, 1, 38, 184, 1, 38, 76]
abbrev dktJ1_fixAfterInsertion_3 : List UInt8 := dkwJ1_fixAfterInsertion_3 ++ dktJ1_fixAfterInsertion_4
def dkwJ1_fixAfterInsertion_2 : List UInt8 := [184, 1, 38, 184, 1, 44, 77, 44, 184, 1, 47, 154, 0, 38, 43, 184, 1, 38, 4, 184, 1, 51, 44, 4]
abbrev dktJ1_fixAfterInsertion_2 : List UInt8 := dkwJ1_fixAfterInsertion_2 ++ dktJ1_fixAfterInsertion_3
def dkwJ1_fixAfterInsertion_1 : List UInt8 := [154, 0, 234, 43, 184, 1, 38, 43, 184, 1, 38, 184, 1, 38, 184, 1, 41, 166, 0, 110, 43, 184, 1, 38]
abbrev dktJ1_fixAfterInsertion_1 : List UInt8 := dkwJ1_fixAfterInsertion_1 ++ dktJ1_fixAfterInsertion_2
def dkwJ1_fixAfterInsertion_0 : List UInt8 := [43, 3, 181, 1, 34, 43, 198, 0, 252, 43, 42, 180, 0, 101, 165, 0, 244, 43, 180, 0, 124, 180, 1, 34]
abbrev dktJ1_fixAfterInsertion_0 : List UInt8 := dkwJ1_fixAfterInsertion_0 ++ dktJ1_fixAfterInsertion_1
theorem dksJ1_fixAfterInsertion_0 : cJ1_fixAfterInsertion.data.toList.drop 0 = dktJ1_fixAfterInsertion_0 := by decide +kernel
theorem dksJ1_fixAfterInsertion_1 : cJ1_fixAfterInsertion.data.toList.drop 24 = dktJ1_fixAfterInsertion_1 := dk_seg dksJ1_fixAfterInsertion_0 24 rfl rfl
theorem dksJ1_fixAfterInsertion_2 : cJ1_fixAfterInsertion.data.toList.drop 48 = dktJ1_fixAfterInsertion_2 := dk_seg dksJ1_fixAfterInsertion_1 24 rfl rfl
theorem dksJ1_fixAfterInsertion_3 : cJ1_fixAfterInsertion.data.toList.drop 72 = dktJ1_fixAfterInsertion_3 := dk_seg dksJ1_fixAfterInsertion_2 24 rfl rfl
theorem dksJ1_fixAfterInsertion_4 : cJ1_fixAfterInsertion.data.toList.drop 94 = dktJ1_fixAfterInsertion_4 := dk_seg dksJ1_fixAfterInsertion_3 22 rfl rfl
theorem dksJ1_fixAfterInsertion_5 : cJ1_fixAfterInsertion.data.toList.drop 118 = dktJ1_fixAfterInsertion_5 := dk_seg dksJ1_fixAfterInsertion_4 24 rfl rfl
theorem dksJ1_fixAfterInsertion_6 : cJ1_fixAfterInsertion.data.toList.drop 142 = dktJ1_fixAfterInsertion_6 := dk_seg dksJ1_fixAfterInsertion_5 24 rfl rfl
theorem dksJ1_fixAfterInsertion_7 : cJ1_fixAfterInsertion.data.toList.drop 166 = dktJ1_fixAfterInsertion_7 := dk_seg dksJ1_fixAfterInsertion_6 24 rfl rfl
theorem dksJ1_fixAfterInsertion_8 : cJ1_fixAfterInsertion.data.toList.drop 190 = dktJ1_fixAfterInsertion_8 := dk_seg dksJ1_fixAfterInsertion_7 24 rfl rfl
theorem dksJ1_fixAfterInsertion_9 : cJ1_fixAfterInsertion.data.toList.drop 212 = dktJ1_fixAfterInsertion_9 := dk_seg dksJ1_fixAfterInsertion_8 22 rfl rfl
theorem dksJ1_fixAfterInsertion_10 : cJ1_fixAfterInsertion.data.toList.drop 234 = dktJ1_fixAfterInsertion_10 := dk_seg dksJ1_fixAfterInsertion_9 22 rfl rfl
theorem dksJ1_fixAfterInsertion_11 : cJ1_fixAfterInsertion.data.toList.drop 258 = dktJ1_fixAfterInsertion_11 := dk_seg dksJ1_fixAfterInsertion_10 24 rfl rfl
theorem dJ1_fixAfterInsertion_0 : decode cJ1_fixAfterInsertion 0 = .ok (.aload_n 1, 1) := dk_43 (dk_at dksJ1_fixAfterInsertion_0 0 rfl rfl)
theorem dJ1_fixAfterInsertion_1 : decode cJ1_fixAfterInsertion 1 = .ok (.iconst 0, 1) := dk_3 (dk_at dksJ1_fixAfterInsertion_0 1 rfl rfl)
theorem dJ1_fixAfterInsertion_2 : decode cJ1_fixAfterInsertion 2 = .ok (.putfield 290, 3) := dk_181 1 34 (dk_at dksJ1_fixAfterInsertion_0 2 rfl rfl)
theorem dJ1_fixAfterInsertion_5 : decode cJ1_fixAfterInsertion 5 = .ok (.aload_n 1, 1) := dk_43 (dk_at dksJ1_fixAfterInsertion_0 5 rfl rfl)
theorem dJ1_fixAfterInsertion_6 : decode cJ1_fixAfterInsertion 6 = .ok (.ifnull 252, 3) := dk_198 0 252 (dk_at dksJ1_fixAfterInsertion_0 6 rfl rfl)
theorem dJ1_fixAfterInsertion_9 : decode cJ1_fixAfterInsertion 9 = .ok (.aload_n 1, 1) := dk_43 (dk_at dksJ1_fixAfterInsertion_0 9 rfl rfl)
theorem dJ1_fixAfterInsertion_10 : decode cJ1_fixAfterInsertion 10 = .ok (.aload_n 0, 1) := dk_42 (dk_at dksJ1_fixAfterInsertion_0 10 rfl rfl)
theorem dJ1_fixAfterInsertion_11 : decode cJ1_fixAfterInsertion 11 = .ok (.getfield 101, 3) := dk_180 0 101 (dk_at dksJ1_fixAfterInsertion_0 11 rfl rfl)
theorem dJ1_fixAfterInsertion_14 : decode cJ1_fixAfterInsertion 14 = .ok (.if_acmp .eq 244, 3) := dk_165 0 244 (dk_at dksJ1_fixAfterInsertion_0 14 rfl rfl)
theorem dJ1_fixAfterInsertion_17 : decode cJ1_fixAfterInsertion 17 = .ok (.aload_n 1, 1) := dk_43 (dk_at dksJ1_fixAfterInsertion_0 17 rfl rfl)
theorem dJ1_fixAfterInsertion_18 : decode cJ1_fixAfterInsertion 18 = .ok (.getfield 124, 3) := dk_180 0 124 (dk_at dksJ1_fixAfterInsertion_0 18 rfl rfl)
theorem dJ1_fixAfterInsertion_21 : decode cJ1_fixAfterInsertion 21 = .ok (.getfield 290, 3) := dk_180 1 34 (dk_at dksJ1_fixAfterInsertion_0 21 rfl rfl)
theorem dJ1_fixAfterInsertion_24 : decode cJ1_fixAfterInsertion 24 = .ok (.ifCond .ne 234, 3) := dk_154 0 234 (dk_at dksJ1_fixAfterInsertion_1 0 rfl rfl)
theorem dJ1_fixAfterInsertion_27 : decode cJ1_fixAfterInsertion 27 = .ok (.aload_n 1, 1) := dk_43 (dk_at dksJ1_fixAfterInsertion_1 3 rfl rfl)
theorem dJ1_fixAfterInsertion_28 : decode cJ1_fixAfterInsertion 28 = .ok (.invokestatic 294, 3) := dk_184 1 38 (dk_at dksJ1_fixAfterInsertion_1 4 rfl rfl)
theorem dJ1_fixAfterInsertion_31 : decode cJ1_fixAfterInsertion 31 = .ok (.aload_n 1, 1) := dk_43 (dk_at dksJ1_fixAfterInsertion_1 7 rfl rfl)
theorem dJ1_fixAfterInsertion_32 : decode cJ1_fixAfterInsertion 32 = .ok (.invokestatic 294, 3) := dk_184 1 38 (dk_at dksJ1_fixAfterInsertion_1 8 rfl rfl)
theorem dJ1_fixAfterInsertion_35 : decode cJ1_fixAfterInsertion 35 = .ok (.invokestatic 294, 3) := dk_184 1 38 (dk_at dksJ1_fixAfterInsertion_1 11 rfl rfl)
theorem dJ1_fixAfterInsertion_38 : decode cJ1_fixAfterInsertion 38 = .ok (.invokestatic 297, 3) := dk_184 1 41 (dk_at dksJ1_fixAfterInsertion_1 14 rfl rfl)
theorem dJ1_fixAfterInsertion_41 : decode cJ1_fixAfterInsertion 41 = .ok (.if_acmp .ne 110, 3) := dk_166 0 110 (dk_at dksJ1_fixAfterInsertion_1 17 rfl rfl)
theorem dJ1_fixAfterInsertion_44 : decode cJ1_fixAfterInsertion 44 = .ok (.aload_n 1, 1) := dk_43 (dk_at dksJ1_fixAfterInsertion_1 20 rfl rfl)
theorem dJ1_fixAfterInsertion_45 : decode cJ1_fixAfterInsertion 45 = .ok (.invokestatic 294, 3) := dk_184 1 38 (dk_at dksJ1_fixAfterInsertion_1 21 rfl rfl)
theorem dJ1_fixAfterInsertion_48 : decode cJ1_fixAfterInsertion 48 = .ok (.invokestatic 294, 3) := dk_184 1 38 (dk_at dksJ1_fixAfterInsertion_2 0 rfl rfl)
theorem dJ1_fixAfterInsertion_51 : decode cJ1_fixAfterInsertion 51 = .ok (.invokestatic 300, 3) := dk_184 1 44 (dk_at dksJ1_fixAfterInsertion_2 3 rfl rfl)
theorem dJ1_fixAfterInsertion_54 : decode cJ1_fixAfterInsertion 54 = .ok (.astore_n 2, 1) := dk_77 (dk_at dksJ1_fixAfterInsertion_2 6 rfl rfl)
theorem dJ1_fixAfterInsertion_55 : decode cJ1_fixAfterInsertion 55 = .ok (.aload_n 2, 1) := dk_44 (dk_at dksJ1_fixAfterInsertion_2 7 rfl rfl)
theorem dJ1_fixAfterInsertion_56 : decode cJ1_fixAfterInsertion 56 = .ok (.invokestatic 303, 3) := dk_184 1 47 (dk_at dksJ1_fixAfterInsertion_2 8 rfl rfl)
theorem dJ1_fixAfterInsertion_59 : decode cJ1_fixAfterInsertion 59 = .ok (.ifCond .ne 38, 3) := dk_154 0 38 (dk_at dksJ1_fixAfterInsertion_2 11 rfl rfl)
theorem dJ1_fixAfterInsertion_62 : decode cJ1_fixAfterInsertion 62 = .ok (.aload_n 1, 1) := dk_43 (dk_at dksJ1_fixAfterInsertion_2 14 rfl rfl)
theorem dJ1_fixAfterInsertion_63 : decode cJ1_fixAfterInsertion 63 = .ok (.invokestatic 294, 3) := dk_184 1 38 (dk_at dksJ1_fixAfterInsertion_2 15 rfl rfl)
theorem dJ1_fixAfterInsertion_66 : decode cJ1_fixAfterInsertion 66 = .ok (.iconst 1, 1) := dk_4 (dk_at dksJ1_fixAfterInsertion_2 18 rfl rfl)
theorem dJ1_fixAfterInsertion_67 : decode cJ1_fixAfterInsertion 67 = .ok (.invokestatic 307, 3) := dk_184 1 51 (dk_at dksJ1_fixAfterInsertion_2 19 rfl rfl)
theorem dJ1_fixAfterInsertion_70 : decode cJ1_fixAfterInsertion 70 = .ok (.aload_n 2, 1) := dk_44 (dk_at dksJ1_fixAfterInsertion_2 22 rfl rfl)
theorem dJ1_fixAfterInsertion_71 : decode cJ1_fixAfterInsertion 71 = .ok (.iconst 1, 1) := dk_4 (dk_at dksJ1_fixAfterInsertion_2 23 rfl rfl)
theorem dJ1_fixAfterInsertion_72 : decode cJ1_fixAfterInsertion 72 = .ok (.invokestatic 307, 3) := dk_184 1 51 (dk_at dksJ1_fixAfterInsertion_3 0 rfl rfl)
theorem dJ1_fixAfterInsertion_75 : decode cJ1_fixAfterInsertion 75 = .ok (.aload_n 1, 1) := dk_43 (dk_at dksJ1_fixAfterInsertion_3 3 rfl rfl)
theorem dJ1_fixAfterInsertion_76 : decode cJ1_fixAfterInsertion 76 = .ok (.invokestatic 294, 3) := dk_184 1 38 (dk_at dksJ1_fixAfterInsertion_3 4 rfl rfl)
theorem dJ1_fixAfterInsertion_79 : decode cJ1_fixAfterInsertion 79 = .ok (.invokestatic 294, 3) := dk_184 1 38 (dk_at dksJ1_fixAfterInsertion_3 7 rfl rfl)
theorem dJ1_fixAfterInsertion_82 : decode cJ1_fixAfterInsertion 82 = .ok (.iconst 0, 1) := dk_3 (dk_at dksJ1_fixAfterInsertion_3 10 rfl rfl)
theorem dJ1_fixAfterInsertion_83 : decode cJ1_fixAfterInsertion 83 = .ok (.invokestatic 307, 3) := dk_184 1 51 (dk_at dksJ1_fixAfterInsertion_3 11 rfl rfl)
theorem dJ1_fixAfterInsertion_86 : decode cJ1_fixAfterInsertion 86 = .ok (.aload_n 1, 1) := dk_43 (dk_at dksJ1_fixAfterInsertion_3 14 rfl rfl)
theorem dJ1_fixAfterInsertion_87 : decode cJ1_fixAfterInsertion 87 = .ok (.invokestatic 294, 3) := dk_184 1 38 (dk_at dksJ1_fixAfterInsertion_3 15 rfl rfl)
theorem dJ1_fixAfterInsertion_90 : decode cJ1_fixAfterInsertion 90 = .ok (.invokestatic 294, 3) := dk_184 1 38 (dk_at dksJ1_fixAfterInsertion_3 18 rfl rfl)
theorem dJ1_fixAfterInsertion_93 : decode cJ1_fixAfterInsertion 93 = .ok (.astore_n 1, 1) := dk_76 (dk_at dksJ1_fixAfterInsertion_3 21 rfl rfl)
theorem dJ1_fixAfterInsertion_94 : decode cJ1_fixAfterInsertion 94 = .ok (.goto 54, 3) := dk_167 0 54 (dk_at dksJ1_fixAfterInsertion_4 0 rfl rfl)
theorem dJ1_fixAfterInsertion_97 : decode cJ1_fixAfterInsertion 97 = .ok (.aload_n 1, 1) := dk_43 (dk_at dksJ1_fixAfterInsertion_4 3 rfl rfl)
theorem dJ1_fixAfterInsertion_98 : decode cJ1_fixAfterInsertion 98 = .ok (.aload_n 1, 1) := dk_43 (dk_at dksJ1_fixAfterInsertion_4 4 rfl rfl)
theorem dJ1_fixAfterInsertion_99 : decode cJ1_fixAfterInsertion 99 = .ok (.invokestatic 294, 3) := dk_184 1 38 (dk_at dksJ1_fixAfterInsertion_4 5 rfl rfl)
theorem dJ1_fixAfterInsertion_102 : decode cJ1_fixAfterInsertion 102 = .ok (.invokestatic 300, 3) := dk_184 1 44 (dk_at dksJ1_fixAfterInsertion_4 8 rfl rfl)
theorem dJ1_fixAfterInsertion_105 : decode cJ1_fixAfterInsertion 105 = .ok (.if_acmp .ne 13, 3) := dk_166 0 13 (dk_at dksJ1_fixAfterInsertion_4 11 rfl rfl)
theorem dJ1_fixAfterInsertion_108 : decode cJ1_fixAfterInsertion 108 = .ok (.aload_n 1, 1) := dk_43 (dk_at dksJ1_fixAfterInsertion_4 14 rfl rfl)
theorem dJ1_fixAfterInsertion_109 : decode cJ1_fixAfterInsertion 109 = .ok (.invokestatic 294, 3) := dk_184 1 38 (dk_at dksJ1_fixAfterInsertion_4 15 rfl rfl)
theorem dJ1_fixAfterInsertion_112 : decode cJ1_fixAfterInsertion 112 = .ok (.astore_n 1, 1) := dk_76 (dk_at dksJ1_fixAfterInsertion_4 18 rfl rfl)
theorem dJ1_fixAfterInsertion_113 : decode cJ1_fixAfterInsertion 113 = .ok (.aload_n 0, 1) := dk_42 (dk_at dksJ1_fixAfterInsertion_4 19 rfl rfl)
theorem dJ1_fixAfterInsertion_114 : decode cJ1_fixAfterInsertion 114 = .ok (.aload_n 1, 1) := dk_43 (dk_at dksJ1_fixAfterInsertion_4 20 rfl rfl)
theorem dJ1_fixAfterInsertion_115 : decode cJ1_fixAfterInsertion 115 = .ok (.invokevirtual 311, 3) := dk_182 1 55 (dk_at dksJ1_fixAfterInsertion_4 21 rfl rfl)
theorem dJ1_fixAfterInsertion_118 : decode cJ1_fixAfterInsertion 118 = .ok (.aload_n 1, 1) := dk_43 (dk_at dksJ1_fixAfterInsertion_5 0 rfl rfl)
theorem dJ1_fixAfterInsertion_119 : decode cJ1_fixAfterInsertion 119 = .ok (.invokestatic 294, 3) := dk_184 1 38 (dk_at dksJ1_fixAfterInsertion_5 1 rfl rfl)
theorem dJ1_fixAfterInsertion_122 : decode cJ1_fixAfterInsertion 122 = .ok (.iconst 1, 1) := dk_4 (dk_at dksJ1_fixAfterInsertion_5 4 rfl rfl)
theorem dJ1_fixAfterInsertion_123 : decode cJ1_fixAfterInsertion 123 = .ok (.invokestatic 307, 3) := dk_184 1 51 (dk_at dksJ1_fixAfterInsertion_5 5 rfl rfl)
theorem dJ1_fixAfterInsertion_126 : decode cJ1_fixAfterInsertion 126 = .ok (.aload_n 1, 1) := dk_43 (dk_at dksJ1_fixAfterInsertion_5 8 rfl rfl)
theorem dJ1_fixAfterInsertion_127 : decode cJ1_fixAfterInsertion 127 = .ok (.invokestatic 294, 3) := dk_184 1 38 (dk_at dksJ1_fixAfterInsertion_5 9 rfl rfl)
theorem dJ1_fixAfterInsertion_130 : decode cJ1_fixAfterInsertion 130 = .ok (.invokestatic 294, 3) := dk_184 1 38 (dk_at dksJ1_fixAfterInsertion_5 12 rfl rfl)
theorem dJ1_fixAfterInsertion_133 : decode cJ1_fixAfterInsertion 133 = .ok (.iconst 0, 1) := dk_3 (dk_at dksJ1_fixAfterInsertion_5 15 rfl rfl)
theorem dJ1_fixAfterInsertion_134 : decode cJ1_fixAfterInsertion 134 = .ok (.invokestatic 307, 3) := dk_184 1 51 (dk_at dksJ1_fixAfterInsertion_5 16 rfl rfl)
theorem dJ1_fixAfterInsertion_137 : decode cJ1_fixAfterInsertion 137 = .ok (.aload_n 0, 1) := dk_42 (dk_at dksJ1_fixAfterInsertion_5 19 rfl rfl)
theorem dJ1_fixAfterInsertion_138 : decode cJ1_fixAfterInsertion 138 = .ok (.aload_n 1, 1) := dk_43 (dk_at dksJ1_fixAfterInsertion_5 20 rfl rfl)
theorem dJ1_fixAfterInsertion_139 : decode cJ1_fixAfterInsertion 139 = .ok (.invokestatic 294, 3) := dk_184 1 38 (dk_at dksJ1_fixAfterInsertion_5 21 rfl rfl)
theorem dJ1_fixAfterInsertion_142 : decode cJ1_fixAfterInsertion 142 = .ok (.invokestatic 294, 3) := dk_184 1 38 (dk_at dksJ1_fixAfterInsertion_6 0 rfl rfl)
theorem dJ1_fixAfterInsertion_145 : decode cJ1_fixAfterInsertion 145 = .ok (.invokevirtual 314, 3) := dk_182 1 58 (dk_at dksJ1_fixAfterInsertion_6 3 rfl rfl)
theorem dJ1_fixAfterInsertion_148 : decode cJ1_fixAfterInsertion 148 = .ok (.goto (-143), 3) := dk_167 255 113 (dk_at dksJ1_fixAfterInsertion_6 6 rfl rfl)
theorem dJ1_fixAfterInsertion_151 : decode cJ1_fixAfterInsertion 151 = .ok (.aload_n 1, 1) := dk_43 (dk_at dksJ1_fixAfterInsertion_6 9 rfl rfl)
theorem dJ1_fixAfterInsertion_152 : decode cJ1_fixAfterInsertion 152 = .ok (.invokestatic 294, 3) := dk_184 1 38 (dk_at dksJ1_fixAfterInsertion_6 10 rfl rfl)
theorem dJ1_fixAfterInsertion_155 : decode cJ1_fixAfterInsertion 155 = .ok (.invokestatic 294, 3) := dk_184 1 38 (dk_at dksJ1_fixAfterInsertion_6 13 rfl rfl)
theorem dJ1_fixAfterInsertion_158 : decode cJ1_fixAfterInsertion 158 = .ok (.invokestatic 297, 3) := dk_184 1 41 (dk_at dksJ1_fixAfterInsertion_6 16 rfl rfl)
theorem dJ1_fixAfterInsertion_161 : decode cJ1_fixAfterInsertion 161 = .ok (.astore_n 2, 1) := dk_77 (dk_at dksJ1_fixAfterInsertion_6 19 rfl rfl)
theorem dJ1_fixAfterInsertion_162 : decode cJ1_fixAfterInsertion 162 = .ok (.aload_n 2, 1) := dk_44 (dk_at dksJ1_fixAfterInsertion_6 20 rfl rfl)
theorem dJ1_fixAfterInsertion_163 : decode cJ1_fixAfterInsertion 163 = .ok (.invokestatic 303, 3) := dk_184 1 47 (dk_at dksJ1_fixAfterInsertion_6 21 rfl rfl)
theorem dJ1_fixAfterInsertion_166 : decode cJ1_fixAfterInsertion 166 = .ok (.ifCond .ne 38, 3) := dk_154 0 38 (dk_at dksJ1_fixAfterInsertion_7 0 rfl rfl)
theorem dJ1_fixAfterInsertion_169 : decode cJ1_fixAfterInsertion 169 = .ok (.aload_n 1, 1) := dk_43 (dk_at dksJ1_fixAfterInsertion_7 3 rfl rfl)
theorem dJ1_fixAfterInsertion_170 : decode cJ1_fixAfterInsertion 170 = .ok (.invokestatic 294, 3) := dk_184 1 38 (dk_at dksJ1_fixAfterInsertion_7 4 rfl rfl)
theorem dJ1_fixAfterInsertion_173 : decode cJ1_fixAfterInsertion 173 = .ok (.iconst 1, 1) := dk_4 (dk_at dksJ1_fixAfterInsertion_7 7 rfl rfl)
theorem dJ1_fixAfterInsertion_174 : decode cJ1_fixAfterInsertion 174 = .ok (.invokestatic 307, 3) := dk_184 1 51 (dk_at dksJ1_fixAfterInsertion_7 8 rfl rfl)
theorem dJ1_fixAfterInsertion_177 : decode cJ1_fixAfterInsertion 177 = .ok (.aload_n 2, 1) := dk_44 (dk_at dksJ1_fixAfterInsertion_7 11 rfl rfl)
theorem dJ1_fixAfterInsertion_178 : decode cJ1_fixAfterInsertion 178 = .ok (.iconst 1, 1) := dk_4 (dk_at dksJ1_fixAfterInsertion_7 12 rfl rfl)
theorem dJ1_fixAfterInsertion_179 : decode cJ1_fixAfterInsertion 179 = .ok (.invokestatic 307, 3) := dk_184 1 51 (dk_at dksJ1_fixAfterInsertion_7 13 rfl rfl)
theorem dJ1_fixAfterInsertion_182 : decode cJ1_fixAfterInsertion 182 = .ok (.aload_n 1, 1) := dk_43 (dk_at dksJ1_fixAfterInsertion_7 16 rfl rfl)
theorem dJ1_fixAfterInsertion_183 : decode cJ1_fixAfterInsertion 183 = .ok (.invokestatic 294, 3) := dk_184 1 38 (dk_at dksJ1_fixAfterInsertion_7 17 rfl rfl)
theorem dJ1_fixAfterInsertion_186 : decode cJ1_fixAfterInsertion 186 = .ok (.invokestatic 294, 3) := dk_184 1 38 (dk_at dksJ1_fixAfterInsertion_7 20 rfl rfl)
theorem dJ1_fixAfterInsertion_189 : decode cJ1_fixAfterInsertion 189 = .ok (.iconst 0, 1) := dk_3 (dk_at dksJ1_fixAfterInsertion_7 23 rfl rfl)
theorem dJ1_fixAfterInsertion_190 : decode cJ1_fixAfterInsertion 190 = .ok (.invokestatic 307, 3) := dk_184 1 51 (dk_at dksJ1_fixAfterInsertion_8 0 rfl rfl)
theorem dJ1_fixAfterInsertion_193 : decode cJ1_fixAfterInsertion 193 = .ok (.aload_n 1, 1) := dk_43 (dk_at dksJ1_fixAfterInsertion_8 3 rfl rfl)
theorem dJ1_fixAfterInsertion_194 : decode cJ1_fixAfterInsertion 194 = .ok (.invokestatic 294, 3) := dk_184 1 38 (dk_at dksJ1_fixAfterInsertion_8 4 rfl rfl)
theorem dJ1_fixAfterInsertion_197 : decode cJ1_fixAfterInsertion 197 = .ok (.invokestatic 294, 3) := dk_184 1 38 (dk_at dksJ1_fixAfterInsertion_8 7 rfl rfl)
theorem dJ1_fixAfterInsertion_200 : decode cJ1_fixAfterInsertion 200 = .ok (.astore_n 1, 1) := dk_76 (dk_at dksJ1_fixAfterInsertion_8 10 rfl rfl)
theorem dJ1_fixAfterInsertion_201 : decode cJ1_fixAfterInsertion 201 = .ok (.goto 54, 3) := dk_167 0 54 (dk_at dksJ1_fixAfterInsertion_8 11 rfl rfl)
theorem dJ1_fixAfterInsertion_204 : decode cJ1_fixAfterInsertion 204 = .ok (.aload_n 1, 1) := dk_43 (dk_at dksJ1_fixAfterInsertion_8 14 rfl rfl)
theorem dJ1_fixAfterInsertion_205 : decode cJ1_fixAfterInsertion 205 = .ok (.aload_n 1, 1) := dk_43 (dk_at dksJ1_fixAfterInsertion_8 15 rfl rfl)
theorem dJ1_fixAfterInsertion_206 : decode cJ1_fixAfterInsertion 206 = .ok (.invokestatic 294, 3) := dk_184 1 38 (dk_at dksJ1_fixAfterInsertion_8 16 rfl rfl)
theorem dJ1_fixAfterInsertion_209 : decode cJ1_fixAfterInsertion 209 = .ok (.invokestatic 297, 3) := dk_184 1 41 (dk_at dksJ1_fixAfterInsertion_8 19 rfl rfl)
theorem dJ1_fixAfterInsertion_212 : decode cJ1_fixAfterInsertion 212 = .ok (.if_acmp .ne 13, 3) := dk_166 0 13 (dk_at dksJ1_fixAfterInsertion_9 0 rfl rfl)
theorem dJ1_fixAfterInsertion_215 : decode cJ1_fixAfterInsertion 215 = .ok (.aload_n 1, 1) := dk_43 (dk_at dksJ1_fixAfterInsertion_9 3 rfl rfl)
theorem dJ1_fixAfterInsertion_216 : decode cJ1_fixAfterInsertion 216 = .ok (.invokestatic 294, 3) := dk_184 1 38 (dk_at dksJ1_fixAfterInsertion_9 4 rfl rfl)
theorem dJ1_fixAfterInsertion_219 : decode cJ1_fixAfterInsertion 219 = .ok (.astore_n 1, 1) := dk_76 (dk_at dksJ1_fixAfterInsertion_9 7 rfl rfl)
theorem dJ1_fixAfterInsertion_220 : decode cJ1_fixAfterInsertion 220 = .ok (.aload_n 0, 1) := dk_42 (dk_at dksJ1_fixAfterInsertion_9 8 rfl rfl)
theorem dJ1_fixAfterInsertion_221 : decode cJ1_fixAfterInsertion 221 = .ok (.aload_n 1, 1) := dk_43 (dk_at dksJ1_fixAfterInsertion_9 9 rfl rfl)
theorem dJ1_fixAfterInsertion_222 : decode cJ1_fixAfterInsertion 222 = .ok (.invokevirtual 314, 3) := dk_182 1 58 (dk_at dksJ1_fixAfterInsertion_9 10 rfl rfl)
theorem dJ1_fixAfterInsertion_225 : decode cJ1_fixAfterInsertion 225 = .ok (.aload_n 1, 1) := dk_43 (dk_at dksJ1_fixAfterInsertion_9 13 rfl rfl)
theorem dJ1_fixAfterInsertion_226 : decode cJ1_fixAfterInsertion 226 = .ok (.invokestatic 294, 3) := dk_184 1 38 (dk_at dksJ1_fixAfterInsertion_9 14 rfl rfl)
theorem dJ1_fixAfterInsertion_229 : decode cJ1_fixAfterInsertion 229 = .ok (.iconst 1, 1) := dk_4 (dk_at dksJ1_fixAfterInsertion_9 17 rfl rfl)
theorem dJ1_fixAfterInsertion_230 : decode cJ1_fixAfterInsertion 230 = .ok (.invokestatic 307, 3) := dk_184 1 51 (dk_at dksJ1_fixAfterInsertion_9 18 rfl rfl)
theorem dJ1_fixAfterInsertion_233 : decode cJ1_fixAfterInsertion 233 = .ok (.aload_n 1, 1) := dk_43 (dk_at dksJ1_fixAfterInsertion_9 21 rfl rfl)
theorem dJ1_fixAfterInsertion_234 : decode cJ1_fixAfterInsertion 234 = .ok (.invokestatic 294, 3) := dk_184 1 38 (dk_at dksJ1_fixAfterInsertion_10 0 rfl rfl)
theorem dJ1_fixAfterInsertion_237 : decode cJ1_fixAfterInsertion 237 = .ok (.invokestatic 294, 3) := dk_184 1 38 (dk_at dksJ1_fixAfterInsertion_10 3 rfl rfl)
theorem dJ1_fixAfterInsertion_240 : decode cJ1_fixAfterInsertion 240 = .ok (.iconst 0, 1) := dk_3 (dk_at dksJ1_fixAfterInsertion_10 6 rfl rfl)
theorem dJ1_fixAfterInsertion_241 : decode cJ1_fixAfterInsertion 241 = .ok (.invokestatic 307, 3) := dk_184 1 51 (dk_at dksJ1_fixAfterInsertion_10 7 rfl rfl)
theorem dJ1_fixAfterInsertion_244 : decode cJ1_fixAfterInsertion 244 = .ok (.aload_n 0, 1) := dk_42 (dk_at dksJ1_fixAfterInsertion_10 10 rfl rfl)
theorem dJ1_fixAfterInsertion_245 : decode cJ1_fixAfterInsertion 245 = .ok (.aload_n 1, 1) := dk_43 (dk_at dksJ1_fixAfterInsertion_10 11 rfl rfl)
theorem dJ1_fixAfterInsertion_246 : decode cJ1_fixAfterInsertion 246 = .ok (.invokestatic 294, 3) := dk_184 1 38 (dk_at dksJ1_fixAfterInsertion_10 12 rfl rfl)
theorem dJ1_fixAfterInsertion_249 : decode cJ1_fixAfterInsertion 249 = .ok (.invokestatic 294, 3) := dk_184 1 38 (dk_at dksJ1_fixAfterInsertion_10 15 rfl rfl)
theorem dJ1_fixAfterInsertion_252 : decode cJ1_fixAfterInsertion 252 = .ok (.invokevirtual 311, 3) := dk_182 1 55 (dk_at dksJ1_fixAfterInsertion_10 18 rfl rfl)
theorem dJ1_fixAfterInsertion_255 : decode cJ1_fixAfterInsertion 255 = .ok (.goto (-250), 3) := dk_167 255 6 (dk_at dksJ1_fixAfterInsertion_10 21 rfl rfl)
theorem dJ1_fixAfterInsertion_258 : decode cJ1_fixAfterInsertion 258 = .ok (.aload_n 0, 1) := dk_42 (dk_at dksJ1_fixAfterInsertion_11 0 rfl rfl)
theorem dJ1_fixAfterInsertion_259 : decode cJ1_fixAfterInsertion 259 = .ok (.getfield 101, 3) := dk_180 0 101 (dk_at dksJ1_fixAfterInsertion_11 1 rfl rfl)
theorem dJ1_fixAfterInsertion_262 : decode cJ1_fixAfterInsertion 262 = .ok (.iconst 1, 1) := dk_4 (dk_at dksJ1_fixAfterInsertion_11 4 rfl rfl)
theorem dJ1_fixAfterInsertion_263 : decode cJ1_fixAfterInsertion 263 = .ok (.putfield 290, 3) := dk_181 1 34 (dk_at dksJ1_fixAfterInsertion_11 5 rfl rfl)
theorem dJ1_fixAfterInsertion_266 : decode cJ1_fixAfterInsertion 266 = .ok (.return_, 1) := dk_177 (dk_at dksJ1_fixAfterInsertion_11 8 rfl rfl)
abbrev kJ1_fixAfterInsertion : KX := (cJ1_fixAfterInsertion, "java/util/TreeMap", "fixAfterInsertion", 3, none, [], 1)
abbrev cJ1_parentOf : ByteArray := prog_75_method_77_code
def yJ1_parentOf : MethodName := ⟨RJ1, "parentOf", "(Ljava/util/TreeMap$Entry;)Ljava/util/TreeMap$Entry;"⟩
def dkwJ1_parentOf_0 : List UInt8 := [42, 199, 0, 7, 1, 167, 0, 7, 42, 180, 0, 124, 176]
abbrev dktJ1_parentOf_0 : List UInt8 := dkwJ1_parentOf_0 ++ []
theorem dksJ1_parentOf_0 : cJ1_parentOf.data.toList.drop 0 = dktJ1_parentOf_0 := by decide +kernel
theorem dJ1_parentOf_0 : decode cJ1_parentOf 0 = .ok (.aload_n 0, 1) := dk_42 (dk_at dksJ1_parentOf_0 0 rfl rfl)
theorem dJ1_parentOf_1 : decode cJ1_parentOf 1 = .ok (.ifnonnull 7, 3) := dk_199 0 7 (dk_at dksJ1_parentOf_0 1 rfl rfl)
theorem dJ1_parentOf_4 : decode cJ1_parentOf 4 = .ok (.aconst_null, 1) := dk_1 (dk_at dksJ1_parentOf_0 4 rfl rfl)
theorem dJ1_parentOf_5 : decode cJ1_parentOf 5 = .ok (.goto 7, 3) := dk_167 0 7 (dk_at dksJ1_parentOf_0 5 rfl rfl)
theorem dJ1_parentOf_8 : decode cJ1_parentOf 8 = .ok (.aload_n 0, 1) := dk_42 (dk_at dksJ1_parentOf_0 8 rfl rfl)
theorem dJ1_parentOf_9 : decode cJ1_parentOf 9 = .ok (.getfield 124, 3) := dk_180 0 124 (dk_at dksJ1_parentOf_0 9 rfl rfl)
theorem dJ1_parentOf_12 : decode cJ1_parentOf 12 = .ok (.areturn, 1) := dk_176 (dk_at dksJ1_parentOf_0 12 rfl rfl)
abbrev kJ1_parentOf : KX := (cJ1_parentOf, "java/util/TreeMap", "parentOf", 1, some (.object "java/util/TreeMap$Entry"), [], 0)
abbrev cJ1_leftOf : ByteArray := prog_75_method_79_code
def yJ1_leftOf : MethodName := ⟨RJ1, "leftOf", "(Ljava/util/TreeMap$Entry;)Ljava/util/TreeMap$Entry;"⟩
def dkwJ1_leftOf_0 : List UInt8 := [42, 199, 0, 7, 1, 167, 0, 7, 42, 180, 0, 111, 176]
abbrev dktJ1_leftOf_0 : List UInt8 := dkwJ1_leftOf_0 ++ []
theorem dksJ1_leftOf_0 : cJ1_leftOf.data.toList.drop 0 = dktJ1_leftOf_0 := by decide +kernel
theorem dJ1_leftOf_0 : decode cJ1_leftOf 0 = .ok (.aload_n 0, 1) := dk_42 (dk_at dksJ1_leftOf_0 0 rfl rfl)
theorem dJ1_leftOf_1 : decode cJ1_leftOf 1 = .ok (.ifnonnull 7, 3) := dk_199 0 7 (dk_at dksJ1_leftOf_0 1 rfl rfl)
theorem dJ1_leftOf_4 : decode cJ1_leftOf 4 = .ok (.aconst_null, 1) := dk_1 (dk_at dksJ1_leftOf_0 4 rfl rfl)
theorem dJ1_leftOf_5 : decode cJ1_leftOf 5 = .ok (.goto 7, 3) := dk_167 0 7 (dk_at dksJ1_leftOf_0 5 rfl rfl)
theorem dJ1_leftOf_8 : decode cJ1_leftOf 8 = .ok (.aload_n 0, 1) := dk_42 (dk_at dksJ1_leftOf_0 8 rfl rfl)
theorem dJ1_leftOf_9 : decode cJ1_leftOf 9 = .ok (.getfield 111, 3) := dk_180 0 111 (dk_at dksJ1_leftOf_0 9 rfl rfl)
theorem dJ1_leftOf_12 : decode cJ1_leftOf 12 = .ok (.areturn, 1) := dk_176 (dk_at dksJ1_leftOf_0 12 rfl rfl)
abbrev kJ1_leftOf : KX := (cJ1_leftOf, "java/util/TreeMap", "leftOf", 1, some (.object "java/util/TreeMap$Entry"), [], 0)
abbrev cJ1_rightOf : ByteArray := prog_75_method_80_code
def yJ1_rightOf : MethodName := ⟨RJ1, "rightOf", "(Ljava/util/TreeMap$Entry;)Ljava/util/TreeMap$Entry;"⟩
def dkwJ1_rightOf_0 : List UInt8 := [42, 199, 0, 7, 1, 167, 0, 7, 42, 180, 0, 114, 176]
abbrev dktJ1_rightOf_0 : List UInt8 := dkwJ1_rightOf_0 ++ []
theorem dksJ1_rightOf_0 : cJ1_rightOf.data.toList.drop 0 = dktJ1_rightOf_0 := by decide +kernel
theorem dJ1_rightOf_0 : decode cJ1_rightOf 0 = .ok (.aload_n 0, 1) := dk_42 (dk_at dksJ1_rightOf_0 0 rfl rfl)
theorem dJ1_rightOf_1 : decode cJ1_rightOf 1 = .ok (.ifnonnull 7, 3) := dk_199 0 7 (dk_at dksJ1_rightOf_0 1 rfl rfl)
theorem dJ1_rightOf_4 : decode cJ1_rightOf 4 = .ok (.aconst_null, 1) := dk_1 (dk_at dksJ1_rightOf_0 4 rfl rfl)
theorem dJ1_rightOf_5 : decode cJ1_rightOf 5 = .ok (.goto 7, 3) := dk_167 0 7 (dk_at dksJ1_rightOf_0 5 rfl rfl)
theorem dJ1_rightOf_8 : decode cJ1_rightOf 8 = .ok (.aload_n 0, 1) := dk_42 (dk_at dksJ1_rightOf_0 8 rfl rfl)
theorem dJ1_rightOf_9 : decode cJ1_rightOf 9 = .ok (.getfield 114, 3) := dk_180 0 114 (dk_at dksJ1_rightOf_0 9 rfl rfl)
theorem dJ1_rightOf_12 : decode cJ1_rightOf 12 = .ok (.areturn, 1) := dk_176 (dk_at dksJ1_rightOf_0 12 rfl rfl)
abbrev kJ1_rightOf : KX := (cJ1_rightOf, "java/util/TreeMap", "rightOf", 1, some (.object "java/util/TreeMap$Entry"), [], 0)
abbrev cJ1_colorOf : ByteArray := prog_75_method_76_code
def yJ1_colorOf : MethodName := ⟨RJ1, "colorOf", "(Ljava/util/TreeMap$Entry;)Z"⟩
def dkwJ1_colorOf_0 : List UInt8 := [42, 199, 0, 7, 4, 167, 0, 7, 42, 180, 1, 34, 172]
abbrev dktJ1_colorOf_0 : List UInt8 := dkwJ1_colorOf_0 ++ []
theorem dksJ1_colorOf_0 : cJ1_colorOf.data.toList.drop 0 = dktJ1_colorOf_0 := by decide +kernel
theorem dJ1_colorOf_0 : decode cJ1_colorOf 0 = .ok (.aload_n 0, 1) := dk_42 (dk_at dksJ1_colorOf_0 0 rfl rfl)
theorem dJ1_colorOf_1 : decode cJ1_colorOf 1 = .ok (.ifnonnull 7, 3) := dk_199 0 7 (dk_at dksJ1_colorOf_0 1 rfl rfl)
theorem dJ1_colorOf_4 : decode cJ1_colorOf 4 = .ok (.iconst 1, 1) := dk_4 (dk_at dksJ1_colorOf_0 4 rfl rfl)
theorem dJ1_colorOf_5 : decode cJ1_colorOf 5 = .ok (.goto 7, 3) := dk_167 0 7 (dk_at dksJ1_colorOf_0 5 rfl rfl)
theorem dJ1_colorOf_8 : decode cJ1_colorOf 8 = .ok (.aload_n 0, 1) := dk_42 (dk_at dksJ1_colorOf_0 8 rfl rfl)
theorem dJ1_colorOf_9 : decode cJ1_colorOf 9 = .ok (.getfield 290, 3) := dk_180 1 34 (dk_at dksJ1_colorOf_0 9 rfl rfl)
theorem dJ1_colorOf_12 : decode cJ1_colorOf 12 = .ok (.ireturn, 1) := dk_172 (dk_at dksJ1_colorOf_0 12 rfl rfl)
abbrev kJ1_colorOf : KX := (cJ1_colorOf, "java/util/TreeMap", "colorOf", 1, some .boolean, [], 0)
abbrev cJ1_setColor : ByteArray := prog_75_method_78_code
def yJ1_setColor : MethodName := ⟨RJ1, "setColor", "(Ljava/util/TreeMap$Entry;Z)V"⟩
def dkwJ1_setColor_0 : List UInt8 := [42, 198, 0, 8, 42, 27, 181, 1, 34, 177]
abbrev dktJ1_setColor_0 : List UInt8 := dkwJ1_setColor_0 ++ []
theorem dksJ1_setColor_0 : cJ1_setColor.data.toList.drop 0 = dktJ1_setColor_0 := by decide +kernel
theorem dJ1_setColor_0 : decode cJ1_setColor 0 = .ok (.aload_n 0, 1) := dk_42 (dk_at dksJ1_setColor_0 0 rfl rfl)
theorem dJ1_setColor_1 : decode cJ1_setColor 1 = .ok (.ifnull 8, 3) := dk_198 0 8 (dk_at dksJ1_setColor_0 1 rfl rfl)
theorem dJ1_setColor_4 : decode cJ1_setColor 4 = .ok (.aload_n 0, 1) := dk_42 (dk_at dksJ1_setColor_0 4 rfl rfl)
theorem dJ1_setColor_5 : decode cJ1_setColor 5 = .ok (.iload_n 1, 1) := dk_27 (dk_at dksJ1_setColor_0 5 rfl rfl)
theorem dJ1_setColor_6 : decode cJ1_setColor 6 = .ok (.putfield 290, 3) := dk_181 1 34 (dk_at dksJ1_setColor_0 6 rfl rfl)
theorem dJ1_setColor_9 : decode cJ1_setColor 9 = .ok (.return_, 1) := dk_177 (dk_at dksJ1_setColor_0 9 rfl rfl)
abbrev kJ1_setColor : KX := (cJ1_setColor, "java/util/TreeMap", "setColor", 2, none, [], 0)
abbrev cJ1_rotateLeft : ByteArray := prog_75_method_81_code
def yJ1_rotateLeft : MethodName := ⟨RJ1, "rotateLeft", "(Ljava/util/TreeMap$Entry;)V"⟩
def dkwJ1_rotateLeft_4 : List UInt8 := [177]
abbrev dktJ1_rotateLeft_4 : List UInt8 := dkwJ1_rotateLeft_4 ++ []
def dkwJ1_rotateLeft_3 : List UInt8 := [181, 0, 111, 167, 0, 11, 43, 180, 0, 124, 44, 181, 0, 114, 44, 43, 181, 0, 111, 43, 44, 181, 0, 124]
abbrev dktJ1_rotateLeft_3 : List UInt8 := dkwJ1_rotateLeft_3 ++ dktJ1_rotateLeft_4
def dkwJ1_rotateLeft_2 : List UInt8 := [44, 181, 0, 101, 167, 0, 33, 43, 180, 0, 124, 180, 0, 111, 43, 166, 0, 14, 43, 180, 0, 124, 44]
abbrev dktJ1_rotateLeft_2 : List UInt8 := dkwJ1_rotateLeft_2 ++ dktJ1_rotateLeft_3
def dkwJ1_rotateLeft_1 : List UInt8 := [44, 180, 0, 111, 43, 181, 0, 124, 44, 43, 180, 0, 124, 181, 0, 124, 43, 180, 0, 124, 199, 0, 11, 42]
abbrev dktJ1_rotateLeft_1 : List UInt8 := dkwJ1_rotateLeft_1 ++ dktJ1_rotateLeft_2
def dkwJ1_rotateLeft_0 : List UInt8 := [43, 198, 0, 94, 43, 180, 0, 114, 77, 43, 44, 180, 0, 111, 181, 0, 114, 44, 180, 0, 111, 198, 0, 11]
abbrev dktJ1_rotateLeft_0 : List UInt8 := dkwJ1_rotateLeft_0 ++ dktJ1_rotateLeft_1
theorem dksJ1_rotateLeft_0 : cJ1_rotateLeft.data.toList.drop 0 = dktJ1_rotateLeft_0 := by decide +kernel
theorem dksJ1_rotateLeft_1 : cJ1_rotateLeft.data.toList.drop 24 = dktJ1_rotateLeft_1 := dk_seg dksJ1_rotateLeft_0 24 rfl rfl
theorem dksJ1_rotateLeft_2 : cJ1_rotateLeft.data.toList.drop 48 = dktJ1_rotateLeft_2 := dk_seg dksJ1_rotateLeft_1 24 rfl rfl
theorem dksJ1_rotateLeft_3 : cJ1_rotateLeft.data.toList.drop 71 = dktJ1_rotateLeft_3 := dk_seg dksJ1_rotateLeft_2 23 rfl rfl
theorem dksJ1_rotateLeft_4 : cJ1_rotateLeft.data.toList.drop 95 = dktJ1_rotateLeft_4 := dk_seg dksJ1_rotateLeft_3 24 rfl rfl
theorem dJ1_rotateLeft_0 : decode cJ1_rotateLeft 0 = .ok (.aload_n 1, 1) := dk_43 (dk_at dksJ1_rotateLeft_0 0 rfl rfl)
theorem dJ1_rotateLeft_1 : decode cJ1_rotateLeft 1 = .ok (.ifnull 94, 3) := dk_198 0 94 (dk_at dksJ1_rotateLeft_0 1 rfl rfl)
theorem dJ1_rotateLeft_4 : decode cJ1_rotateLeft 4 = .ok (.aload_n 1, 1) := dk_43 (dk_at dksJ1_rotateLeft_0 4 rfl rfl)
theorem dJ1_rotateLeft_5 : decode cJ1_rotateLeft 5 = .ok (.getfield 114, 3) := dk_180 0 114 (dk_at dksJ1_rotateLeft_0 5 rfl rfl)
theorem dJ1_rotateLeft_8 : decode cJ1_rotateLeft 8 = .ok (.astore_n 2, 1) := dk_77 (dk_at dksJ1_rotateLeft_0 8 rfl rfl)
theorem dJ1_rotateLeft_9 : decode cJ1_rotateLeft 9 = .ok (.aload_n 1, 1) := dk_43 (dk_at dksJ1_rotateLeft_0 9 rfl rfl)
theorem dJ1_rotateLeft_10 : decode cJ1_rotateLeft 10 = .ok (.aload_n 2, 1) := dk_44 (dk_at dksJ1_rotateLeft_0 10 rfl rfl)
theorem dJ1_rotateLeft_11 : decode cJ1_rotateLeft 11 = .ok (.getfield 111, 3) := dk_180 0 111 (dk_at dksJ1_rotateLeft_0 11 rfl rfl)
theorem dJ1_rotateLeft_14 : decode cJ1_rotateLeft 14 = .ok (.putfield 114, 3) := dk_181 0 114 (dk_at dksJ1_rotateLeft_0 14 rfl rfl)
theorem dJ1_rotateLeft_17 : decode cJ1_rotateLeft 17 = .ok (.aload_n 2, 1) := dk_44 (dk_at dksJ1_rotateLeft_0 17 rfl rfl)
theorem dJ1_rotateLeft_18 : decode cJ1_rotateLeft 18 = .ok (.getfield 111, 3) := dk_180 0 111 (dk_at dksJ1_rotateLeft_0 18 rfl rfl)
theorem dJ1_rotateLeft_21 : decode cJ1_rotateLeft 21 = .ok (.ifnull 11, 3) := dk_198 0 11 (dk_at dksJ1_rotateLeft_0 21 rfl rfl)
theorem dJ1_rotateLeft_24 : decode cJ1_rotateLeft 24 = .ok (.aload_n 2, 1) := dk_44 (dk_at dksJ1_rotateLeft_1 0 rfl rfl)
theorem dJ1_rotateLeft_25 : decode cJ1_rotateLeft 25 = .ok (.getfield 111, 3) := dk_180 0 111 (dk_at dksJ1_rotateLeft_1 1 rfl rfl)
theorem dJ1_rotateLeft_28 : decode cJ1_rotateLeft 28 = .ok (.aload_n 1, 1) := dk_43 (dk_at dksJ1_rotateLeft_1 4 rfl rfl)
theorem dJ1_rotateLeft_29 : decode cJ1_rotateLeft 29 = .ok (.putfield 124, 3) := dk_181 0 124 (dk_at dksJ1_rotateLeft_1 5 rfl rfl)
theorem dJ1_rotateLeft_32 : decode cJ1_rotateLeft 32 = .ok (.aload_n 2, 1) := dk_44 (dk_at dksJ1_rotateLeft_1 8 rfl rfl)
theorem dJ1_rotateLeft_33 : decode cJ1_rotateLeft 33 = .ok (.aload_n 1, 1) := dk_43 (dk_at dksJ1_rotateLeft_1 9 rfl rfl)
theorem dJ1_rotateLeft_34 : decode cJ1_rotateLeft 34 = .ok (.getfield 124, 3) := dk_180 0 124 (dk_at dksJ1_rotateLeft_1 10 rfl rfl)
theorem dJ1_rotateLeft_37 : decode cJ1_rotateLeft 37 = .ok (.putfield 124, 3) := dk_181 0 124 (dk_at dksJ1_rotateLeft_1 13 rfl rfl)
theorem dJ1_rotateLeft_40 : decode cJ1_rotateLeft 40 = .ok (.aload_n 1, 1) := dk_43 (dk_at dksJ1_rotateLeft_1 16 rfl rfl)
theorem dJ1_rotateLeft_41 : decode cJ1_rotateLeft 41 = .ok (.getfield 124, 3) := dk_180 0 124 (dk_at dksJ1_rotateLeft_1 17 rfl rfl)
theorem dJ1_rotateLeft_44 : decode cJ1_rotateLeft 44 = .ok (.ifnonnull 11, 3) := dk_199 0 11 (dk_at dksJ1_rotateLeft_1 20 rfl rfl)
theorem dJ1_rotateLeft_47 : decode cJ1_rotateLeft 47 = .ok (.aload_n 0, 1) := dk_42 (dk_at dksJ1_rotateLeft_1 23 rfl rfl)
theorem dJ1_rotateLeft_48 : decode cJ1_rotateLeft 48 = .ok (.aload_n 2, 1) := dk_44 (dk_at dksJ1_rotateLeft_2 0 rfl rfl)
theorem dJ1_rotateLeft_49 : decode cJ1_rotateLeft 49 = .ok (.putfield 101, 3) := dk_181 0 101 (dk_at dksJ1_rotateLeft_2 1 rfl rfl)
theorem dJ1_rotateLeft_52 : decode cJ1_rotateLeft 52 = .ok (.goto 33, 3) := dk_167 0 33 (dk_at dksJ1_rotateLeft_2 4 rfl rfl)
theorem dJ1_rotateLeft_55 : decode cJ1_rotateLeft 55 = .ok (.aload_n 1, 1) := dk_43 (dk_at dksJ1_rotateLeft_2 7 rfl rfl)
theorem dJ1_rotateLeft_56 : decode cJ1_rotateLeft 56 = .ok (.getfield 124, 3) := dk_180 0 124 (dk_at dksJ1_rotateLeft_2 8 rfl rfl)
theorem dJ1_rotateLeft_59 : decode cJ1_rotateLeft 59 = .ok (.getfield 111, 3) := dk_180 0 111 (dk_at dksJ1_rotateLeft_2 11 rfl rfl)
theorem dJ1_rotateLeft_62 : decode cJ1_rotateLeft 62 = .ok (.aload_n 1, 1) := dk_43 (dk_at dksJ1_rotateLeft_2 14 rfl rfl)
theorem dJ1_rotateLeft_63 : decode cJ1_rotateLeft 63 = .ok (.if_acmp .ne 14, 3) := dk_166 0 14 (dk_at dksJ1_rotateLeft_2 15 rfl rfl)
theorem dJ1_rotateLeft_66 : decode cJ1_rotateLeft 66 = .ok (.aload_n 1, 1) := dk_43 (dk_at dksJ1_rotateLeft_2 18 rfl rfl)
theorem dJ1_rotateLeft_67 : decode cJ1_rotateLeft 67 = .ok (.getfield 124, 3) := dk_180 0 124 (dk_at dksJ1_rotateLeft_2 19 rfl rfl)
theorem dJ1_rotateLeft_70 : decode cJ1_rotateLeft 70 = .ok (.aload_n 2, 1) := dk_44 (dk_at dksJ1_rotateLeft_2 22 rfl rfl)
theorem dJ1_rotateLeft_71 : decode cJ1_rotateLeft 71 = .ok (.putfield 111, 3) := dk_181 0 111 (dk_at dksJ1_rotateLeft_3 0 rfl rfl)
theorem dJ1_rotateLeft_74 : decode cJ1_rotateLeft 74 = .ok (.goto 11, 3) := dk_167 0 11 (dk_at dksJ1_rotateLeft_3 3 rfl rfl)
theorem dJ1_rotateLeft_77 : decode cJ1_rotateLeft 77 = .ok (.aload_n 1, 1) := dk_43 (dk_at dksJ1_rotateLeft_3 6 rfl rfl)
theorem dJ1_rotateLeft_78 : decode cJ1_rotateLeft 78 = .ok (.getfield 124, 3) := dk_180 0 124 (dk_at dksJ1_rotateLeft_3 7 rfl rfl)
theorem dJ1_rotateLeft_81 : decode cJ1_rotateLeft 81 = .ok (.aload_n 2, 1) := dk_44 (dk_at dksJ1_rotateLeft_3 10 rfl rfl)
theorem dJ1_rotateLeft_82 : decode cJ1_rotateLeft 82 = .ok (.putfield 114, 3) := dk_181 0 114 (dk_at dksJ1_rotateLeft_3 11 rfl rfl)
theorem dJ1_rotateLeft_85 : decode cJ1_rotateLeft 85 = .ok (.aload_n 2, 1) := dk_44 (dk_at dksJ1_rotateLeft_3 14 rfl rfl)
theorem dJ1_rotateLeft_86 : decode cJ1_rotateLeft 86 = .ok (.aload_n 1, 1) := dk_43 (dk_at dksJ1_rotateLeft_3 15 rfl rfl)
theorem dJ1_rotateLeft_87 : decode cJ1_rotateLeft 87 = .ok (.putfield 111, 3) := dk_181 0 111 (dk_at dksJ1_rotateLeft_3 16 rfl rfl)
theorem dJ1_rotateLeft_90 : decode cJ1_rotateLeft 90 = .ok (.aload_n 1, 1) := dk_43 (dk_at dksJ1_rotateLeft_3 19 rfl rfl)
theorem dJ1_rotateLeft_91 : decode cJ1_rotateLeft 91 = .ok (.aload_n 2, 1) := dk_44 (dk_at dksJ1_rotateLeft_3 20 rfl rfl)
theorem dJ1_rotateLeft_92 : decode cJ1_rotateLeft 92 = .ok (.putfield 124, 3) := dk_181 0 124 (dk_at dksJ1_rotateLeft_3 21 rfl rfl)
theorem dJ1_rotateLeft_95 : decode cJ1_rotateLeft 95 = .ok (.return_, 1) := dk_177 (dk_at dksJ1_rotateLeft_4 0 rfl rfl)
abbrev kJ1_rotateLeft : KX := (cJ1_rotateLeft, "java/util/TreeMap", "rotateLeft", 3, none, [], 0)
abbrev cJ1_rotateRight : ByteArray := prog_75_method_82_code
def yJ1_rotateRight : MethodName := ⟨RJ1, "rotateRight", "(Ljava/util/TreeMap$Entry;)V"⟩
def dkwJ1_rotateRight_4 : List UInt8 := [177]
abbrev dktJ1_rotateRight_4 : List UInt8 := dkwJ1_rotateRight_4 ++ []
def dkwJ1_rotateRight_3 : List UInt8 := [181, 0, 114, 167, 0, 11, 43, 180, 0, 124, 44, 181, 0, 111, 44, 43, 181, 0, 114, 43, 44, 181, 0, 124]
abbrev dktJ1_rotateRight_3 : List UInt8 := dkwJ1_rotateRight_3 ++ dktJ1_rotateRight_4
def dkwJ1_rotateRight_2 : List UInt8 := [44, 181, 0, 101, 167, 0, 33, 43, 180, 0, 124, 180, 0, 114, 43, 166, 0, 14, 43, 180, 0, 124, 44]
abbrev dktJ1_rotateRight_2 : List UInt8 := dkwJ1_rotateRight_2 ++ dktJ1_rotateRight_3
def dkwJ1_rotateRight_1 : List UInt8 := [44, 180, 0, 114, 43, 181, 0, 124, 44, 43, 180, 0, 124, 181, 0, 124, 43, 180, 0, 124, 199, 0, 11, 42]
abbrev dktJ1_rotateRight_1 : List UInt8 := dkwJ1_rotateRight_1 ++ dktJ1_rotateRight_2
def dkwJ1_rotateRight_0 : List UInt8 := [43, 198, 0, 94, 43, 180, 0, 111, 77, 43, 44, 180, 0, 114, 181, 0, 111, 44, 180, 0, 114, 198, 0, 11]
abbrev dktJ1_rotateRight_0 : List UInt8 := dkwJ1_rotateRight_0 ++ dktJ1_rotateRight_1
theorem dksJ1_rotateRight_0 : cJ1_rotateRight.data.toList.drop 0 = dktJ1_rotateRight_0 := by decide +kernel
theorem dksJ1_rotateRight_1 : cJ1_rotateRight.data.toList.drop 24 = dktJ1_rotateRight_1 := dk_seg dksJ1_rotateRight_0 24 rfl rfl
theorem dksJ1_rotateRight_2 : cJ1_rotateRight.data.toList.drop 48 = dktJ1_rotateRight_2 := dk_seg dksJ1_rotateRight_1 24 rfl rfl
theorem dksJ1_rotateRight_3 : cJ1_rotateRight.data.toList.drop 71 = dktJ1_rotateRight_3 := dk_seg dksJ1_rotateRight_2 23 rfl rfl
theorem dksJ1_rotateRight_4 : cJ1_rotateRight.data.toList.drop 95 = dktJ1_rotateRight_4 := dk_seg dksJ1_rotateRight_3 24 rfl rfl
theorem dJ1_rotateRight_0 : decode cJ1_rotateRight 0 = .ok (.aload_n 1, 1) := dk_43 (dk_at dksJ1_rotateRight_0 0 rfl rfl)
theorem dJ1_rotateRight_1 : decode cJ1_rotateRight 1 = .ok (.ifnull 94, 3) := dk_198 0 94 (dk_at dksJ1_rotateRight_0 1 rfl rfl)
theorem dJ1_rotateRight_4 : decode cJ1_rotateRight 4 = .ok (.aload_n 1, 1) := dk_43 (dk_at dksJ1_rotateRight_0 4 rfl rfl)
theorem dJ1_rotateRight_5 : decode cJ1_rotateRight 5 = .ok (.getfield 111, 3) := dk_180 0 111 (dk_at dksJ1_rotateRight_0 5 rfl rfl)
theorem dJ1_rotateRight_8 : decode cJ1_rotateRight 8 = .ok (.astore_n 2, 1) := dk_77 (dk_at dksJ1_rotateRight_0 8 rfl rfl)
theorem dJ1_rotateRight_9 : decode cJ1_rotateRight 9 = .ok (.aload_n 1, 1) := dk_43 (dk_at dksJ1_rotateRight_0 9 rfl rfl)
theorem dJ1_rotateRight_10 : decode cJ1_rotateRight 10 = .ok (.aload_n 2, 1) := dk_44 (dk_at dksJ1_rotateRight_0 10 rfl rfl)
theorem dJ1_rotateRight_11 : decode cJ1_rotateRight 11 = .ok (.getfield 114, 3) := dk_180 0 114 (dk_at dksJ1_rotateRight_0 11 rfl rfl)
theorem dJ1_rotateRight_14 : decode cJ1_rotateRight 14 = .ok (.putfield 111, 3) := dk_181 0 111 (dk_at dksJ1_rotateRight_0 14 rfl rfl)
theorem dJ1_rotateRight_17 : decode cJ1_rotateRight 17 = .ok (.aload_n 2, 1) := dk_44 (dk_at dksJ1_rotateRight_0 17 rfl rfl)
theorem dJ1_rotateRight_18 : decode cJ1_rotateRight 18 = .ok (.getfield 114, 3) := dk_180 0 114 (dk_at dksJ1_rotateRight_0 18 rfl rfl)
theorem dJ1_rotateRight_21 : decode cJ1_rotateRight 21 = .ok (.ifnull 11, 3) := dk_198 0 11 (dk_at dksJ1_rotateRight_0 21 rfl rfl)
theorem dJ1_rotateRight_24 : decode cJ1_rotateRight 24 = .ok (.aload_n 2, 1) := dk_44 (dk_at dksJ1_rotateRight_1 0 rfl rfl)
theorem dJ1_rotateRight_25 : decode cJ1_rotateRight 25 = .ok (.getfield 114, 3) := dk_180 0 114 (dk_at dksJ1_rotateRight_1 1 rfl rfl)
theorem dJ1_rotateRight_28 : decode cJ1_rotateRight 28 = .ok (.aload_n 1, 1) := dk_43 (dk_at dksJ1_rotateRight_1 4 rfl rfl)
theorem dJ1_rotateRight_29 : decode cJ1_rotateRight 29 = .ok (.putfield 124, 3) := dk_181 0 124 (dk_at dksJ1_rotateRight_1 5 rfl rfl)
theorem dJ1_rotateRight_32 : decode cJ1_rotateRight 32 = .ok (.aload_n 2, 1) := dk_44 (dk_at dksJ1_rotateRight_1 8 rfl rfl)
theorem dJ1_rotateRight_33 : decode cJ1_rotateRight 33 = .ok (.aload_n 1, 1) := dk_43 (dk_at dksJ1_rotateRight_1 9 rfl rfl)
theorem dJ1_rotateRight_34 : decode cJ1_rotateRight 34 = .ok (.getfield 124, 3) := dk_180 0 124 (dk_at dksJ1_rotateRight_1 10 rfl rfl)
theorem dJ1_rotateRight_37 : decode cJ1_rotateRight 37 = .ok (.putfield 124, 3) := dk_181 0 124 (dk_at dksJ1_rotateRight_1 13 rfl rfl)
theorem dJ1_rotateRight_40 : decode cJ1_rotateRight 40 = .ok (.aload_n 1, 1) := dk_43 (dk_at dksJ1_rotateRight_1 16 rfl rfl)
theorem dJ1_rotateRight_41 : decode cJ1_rotateRight 41 = .ok (.getfield 124, 3) := dk_180 0 124 (dk_at dksJ1_rotateRight_1 17 rfl rfl)
theorem dJ1_rotateRight_44 : decode cJ1_rotateRight 44 = .ok (.ifnonnull 11, 3) := dk_199 0 11 (dk_at dksJ1_rotateRight_1 20 rfl rfl)
theorem dJ1_rotateRight_47 : decode cJ1_rotateRight 47 = .ok (.aload_n 0, 1) := dk_42 (dk_at dksJ1_rotateRight_1 23 rfl rfl)
theorem dJ1_rotateRight_48 : decode cJ1_rotateRight 48 = .ok (.aload_n 2, 1) := dk_44 (dk_at dksJ1_rotateRight_2 0 rfl rfl)
theorem dJ1_rotateRight_49 : decode cJ1_rotateRight 49 = .ok (.putfield 101, 3) := dk_181 0 101 (dk_at dksJ1_rotateRight_2 1 rfl rfl)
theorem dJ1_rotateRight_52 : decode cJ1_rotateRight 52 = .ok (.goto 33, 3) := dk_167 0 33 (dk_at dksJ1_rotateRight_2 4 rfl rfl)
theorem dJ1_rotateRight_55 : decode cJ1_rotateRight 55 = .ok (.aload_n 1, 1) := dk_43 (dk_at dksJ1_rotateRight_2 7 rfl rfl)
theorem dJ1_rotateRight_56 : decode cJ1_rotateRight 56 = .ok (.getfield 124, 3) := dk_180 0 124 (dk_at dksJ1_rotateRight_2 8 rfl rfl)
theorem dJ1_rotateRight_59 : decode cJ1_rotateRight 59 = .ok (.getfield 114, 3) := dk_180 0 114 (dk_at dksJ1_rotateRight_2 11 rfl rfl)
theorem dJ1_rotateRight_62 : decode cJ1_rotateRight 62 = .ok (.aload_n 1, 1) := dk_43 (dk_at dksJ1_rotateRight_2 14 rfl rfl)
theorem dJ1_rotateRight_63 : decode cJ1_rotateRight 63 = .ok (.if_acmp .ne 14, 3) := dk_166 0 14 (dk_at dksJ1_rotateRight_2 15 rfl rfl)
theorem dJ1_rotateRight_66 : decode cJ1_rotateRight 66 = .ok (.aload_n 1, 1) := dk_43 (dk_at dksJ1_rotateRight_2 18 rfl rfl)
theorem dJ1_rotateRight_67 : decode cJ1_rotateRight 67 = .ok (.getfield 124, 3) := dk_180 0 124 (dk_at dksJ1_rotateRight_2 19 rfl rfl)
theorem dJ1_rotateRight_70 : decode cJ1_rotateRight 70 = .ok (.aload_n 2, 1) := dk_44 (dk_at dksJ1_rotateRight_2 22 rfl rfl)
theorem dJ1_rotateRight_71 : decode cJ1_rotateRight 71 = .ok (.putfield 114, 3) := dk_181 0 114 (dk_at dksJ1_rotateRight_3 0 rfl rfl)
theorem dJ1_rotateRight_74 : decode cJ1_rotateRight 74 = .ok (.goto 11, 3) := dk_167 0 11 (dk_at dksJ1_rotateRight_3 3 rfl rfl)
theorem dJ1_rotateRight_77 : decode cJ1_rotateRight 77 = .ok (.aload_n 1, 1) := dk_43 (dk_at dksJ1_rotateRight_3 6 rfl rfl)
theorem dJ1_rotateRight_78 : decode cJ1_rotateRight 78 = .ok (.getfield 124, 3) := dk_180 0 124 (dk_at dksJ1_rotateRight_3 7 rfl rfl)
theorem dJ1_rotateRight_81 : decode cJ1_rotateRight 81 = .ok (.aload_n 2, 1) := dk_44 (dk_at dksJ1_rotateRight_3 10 rfl rfl)
theorem dJ1_rotateRight_82 : decode cJ1_rotateRight 82 = .ok (.putfield 111, 3) := dk_181 0 111 (dk_at dksJ1_rotateRight_3 11 rfl rfl)
theorem dJ1_rotateRight_85 : decode cJ1_rotateRight 85 = .ok (.aload_n 2, 1) := dk_44 (dk_at dksJ1_rotateRight_3 14 rfl rfl)
theorem dJ1_rotateRight_86 : decode cJ1_rotateRight 86 = .ok (.aload_n 1, 1) := dk_43 (dk_at dksJ1_rotateRight_3 15 rfl rfl)
theorem dJ1_rotateRight_87 : decode cJ1_rotateRight 87 = .ok (.putfield 114, 3) := dk_181 0 114 (dk_at dksJ1_rotateRight_3 16 rfl rfl)
theorem dJ1_rotateRight_90 : decode cJ1_rotateRight 90 = .ok (.aload_n 1, 1) := dk_43 (dk_at dksJ1_rotateRight_3 19 rfl rfl)
theorem dJ1_rotateRight_91 : decode cJ1_rotateRight 91 = .ok (.aload_n 2, 1) := dk_44 (dk_at dksJ1_rotateRight_3 20 rfl rfl)
theorem dJ1_rotateRight_92 : decode cJ1_rotateRight 92 = .ok (.putfield 124, 3) := dk_181 0 124 (dk_at dksJ1_rotateRight_3 21 rfl rfl)
theorem dJ1_rotateRight_95 : decode cJ1_rotateRight 95 = .ok (.return_, 1) := dk_177 (dk_at dksJ1_rotateRight_4 0 rfl rfl)
abbrev kJ1_rotateRight : KX := (cJ1_rotateRight, "java/util/TreeMap", "rotateRight", 3, none, [], 0)
abbrev cJ1_deleteEntry : ByteArray := prog_75_method_84_code
def yJ1_deleteEntry : MethodName := ⟨RJ1, "deleteEntry", "(Ljava/util/TreeMap$Entry;)V"⟩
def dkwJ1_deleteEntry_10 : List UInt8 := [180, 0, 124, 1, 181, 0, 114, 43, 1, 181, 0, 124, 177]
abbrev dktJ1_deleteEntry_10 : List UInt8 := dkwJ1_deleteEntry_10 ++ []
def dkwJ1_deleteEntry_9 : List UInt8 := [180, 0, 124, 1, 181, 0, 111, 167, 0, 22, 43, 43, 180, 0, 124, 180, 0, 114, 166, 0, 11, 43]
abbrev dktJ1_deleteEntry_9 : List UInt8 := dkwJ1_deleteEntry_9 ++ dktJ1_deleteEntry_10
def dkwJ1_deleteEntry_8 : List UInt8 := [182, 1, 61, 43, 180, 0, 124, 198, 0, 49, 43, 43, 180, 0, 124, 180, 0, 111, 166, 0, 14, 43]
abbrev dktJ1_deleteEntry_8 : List UInt8 := dkwJ1_deleteEntry_8 ++ dktJ1_deleteEntry_9
def dkwJ1_deleteEntry_7 : List UInt8 := [180, 0, 124, 199, 0, 11, 42, 1, 181, 0, 101, 167, 0, 69, 43, 180, 1, 34, 4, 160, 0, 8, 42, 43]
abbrev dktJ1_deleteEntry_7 : List UInt8 := dkwJ1_deleteEntry_7 ++ dktJ1_deleteEntry_8
def dkwJ1_deleteEntry_6 : List UInt8 := [181, 0, 114, 181, 0, 111, 43, 180, 1, 34, 4, 160, 0, 92, 42, 44, 182, 1, 61, 167, 0, 84, 43]
abbrev dktJ1_deleteEntry_6 : List UInt8 := dkwJ1_deleteEntry_6 ++ dktJ1_deleteEntry_7
def dkwJ1_deleteEntry_5 : List UInt8 := [181, 0, 111, 167, 0, 11, 43, 180, 0, 124, 44, 181, 0, 114, 43, 43, 43, 1, 90, 181, 0, 124, 90]
abbrev dktJ1_deleteEntry_5 : List UInt8 := dkwJ1_deleteEntry_5 ++ dktJ1_deleteEntry_6
def dkwJ1_deleteEntry_4 : List UInt8 := [44, 181, 0, 101, 167, 0, 33, 43, 43, 180, 0, 124, 180, 0, 111, 166, 0, 14, 43, 180, 0, 124, 44]
abbrev dktJ1_deleteEntry_4 : List UInt8 := dkwJ1_deleteEntry_4 ++ dktJ1_deleteEntry_5
def dkwJ1_deleteEntry_3 : List UInt8 := [180, 0, 114, 77, 44, 198, 0, 87, 44, 43, 180, 0, 124, 181, 0, 124, 43, 180, 0, 124, 199, 0, 11, 42]
abbrev dktJ1_deleteEntry_3 : List UInt8 := dkwJ1_deleteEntry_3 ++ dktJ1_deleteEntry_4
def dkwJ1_deleteEntry_2 : List UInt8 := [44, 180, 0, 58, 181, 0, 58, 44, 76, 43, 180, 0, 111, 198, 0, 10, 43, 180, 0, 111, 167, 0, 7, 43]
abbrev dktJ1_deleteEntry_2 : List UInt8 := dkwJ1_deleteEntry_2 ++ dktJ1_deleteEntry_3
def dkwJ1_deleteEntry_1 : List UInt8 := [198, 0, 33, 43, 180, 0, 114, 198, 0, 26, 43, 184, 0, 68, 77, 43, 44, 180, 0, 105, 181, 0, 105, 43]
abbrev dktJ1_deleteEntry_1 : List UInt8 := dkwJ1_deleteEntry_1 ++ dktJ1_deleteEntry_2
def dkwJ1_deleteEntry_0 : List UInt8 := [42, 89, 180, 0, 13, 4, 96, 181, 0, 13, 42, 89, 180, 0, 7, 4, 100, 181, 0, 7, 43, 180, 0, 111]
abbrev dktJ1_deleteEntry_0 : List UInt8 := dkwJ1_deleteEntry_0 ++ dktJ1_deleteEntry_1
theorem dksJ1_deleteEntry_0 : cJ1_deleteEntry.data.toList.drop 0 = dktJ1_deleteEntry_0 := by decide +kernel
theorem dksJ1_deleteEntry_1 : cJ1_deleteEntry.data.toList.drop 24 = dktJ1_deleteEntry_1 := dk_seg dksJ1_deleteEntry_0 24 rfl rfl
theorem dksJ1_deleteEntry_2 : cJ1_deleteEntry.data.toList.drop 48 = dktJ1_deleteEntry_2 := dk_seg dksJ1_deleteEntry_1 24 rfl rfl
theorem dksJ1_deleteEntry_3 : cJ1_deleteEntry.data.toList.drop 72 = dktJ1_deleteEntry_3 := dk_seg dksJ1_deleteEntry_2 24 rfl rfl
theorem dksJ1_deleteEntry_4 : cJ1_deleteEntry.data.toList.drop 96 = dktJ1_deleteEntry_4 := dk_seg dksJ1_deleteEntry_3 24 rfl rfl
theorem dksJ1_deleteEntry_5 : cJ1_deleteEntry.data.toList.drop 119 = dktJ1_deleteEntry_5 := dk_seg dksJ1_deleteEntry_4 23 rfl rfl
theorem dksJ1_deleteEntry_6 : cJ1_deleteEntry.data.toList.drop 142 = dktJ1_deleteEntry_6 := dk_seg dksJ1_deleteEntry_5 23 rfl rfl
theorem dksJ1_deleteEntry_7 : cJ1_deleteEntry.data.toList.drop 165 = dktJ1_deleteEntry_7 := dk_seg dksJ1_deleteEntry_6 23 rfl rfl
theorem dksJ1_deleteEntry_8 : cJ1_deleteEntry.data.toList.drop 189 = dktJ1_deleteEntry_8 := dk_seg dksJ1_deleteEntry_7 24 rfl rfl
theorem dksJ1_deleteEntry_9 : cJ1_deleteEntry.data.toList.drop 211 = dktJ1_deleteEntry_9 := dk_seg dksJ1_deleteEntry_8 22 rfl rfl
theorem dksJ1_deleteEntry_10 : cJ1_deleteEntry.data.toList.drop 233 = dktJ1_deleteEntry_10 := dk_seg dksJ1_deleteEntry_9 22 rfl rfl
theorem dJ1_deleteEntry_0 : decode cJ1_deleteEntry 0 = .ok (.aload_n 0, 1) := dk_42 (dk_at dksJ1_deleteEntry_0 0 rfl rfl)
theorem dJ1_deleteEntry_1 : decode cJ1_deleteEntry 1 = .ok (.dup, 1) := dk_89 (dk_at dksJ1_deleteEntry_0 1 rfl rfl)
theorem dJ1_deleteEntry_2 : decode cJ1_deleteEntry 2 = .ok (.getfield 13, 3) := dk_180 0 13 (dk_at dksJ1_deleteEntry_0 2 rfl rfl)
theorem dJ1_deleteEntry_5 : decode cJ1_deleteEntry 5 = .ok (.iconst 1, 1) := dk_4 (dk_at dksJ1_deleteEntry_0 5 rfl rfl)
theorem dJ1_deleteEntry_6 : decode cJ1_deleteEntry 6 = .ok (.iadd, 1) := dk_96 (dk_at dksJ1_deleteEntry_0 6 rfl rfl)
theorem dJ1_deleteEntry_7 : decode cJ1_deleteEntry 7 = .ok (.putfield 13, 3) := dk_181 0 13 (dk_at dksJ1_deleteEntry_0 7 rfl rfl)
theorem dJ1_deleteEntry_10 : decode cJ1_deleteEntry 10 = .ok (.aload_n 0, 1) := dk_42 (dk_at dksJ1_deleteEntry_0 10 rfl rfl)
theorem dJ1_deleteEntry_11 : decode cJ1_deleteEntry 11 = .ok (.dup, 1) := dk_89 (dk_at dksJ1_deleteEntry_0 11 rfl rfl)
theorem dJ1_deleteEntry_12 : decode cJ1_deleteEntry 12 = .ok (.getfield 7, 3) := dk_180 0 7 (dk_at dksJ1_deleteEntry_0 12 rfl rfl)
theorem dJ1_deleteEntry_15 : decode cJ1_deleteEntry 15 = .ok (.iconst 1, 1) := dk_4 (dk_at dksJ1_deleteEntry_0 15 rfl rfl)
theorem dJ1_deleteEntry_16 : decode cJ1_deleteEntry 16 = .ok (.isub, 1) := dk_100 (dk_at dksJ1_deleteEntry_0 16 rfl rfl)
theorem dJ1_deleteEntry_17 : decode cJ1_deleteEntry 17 = .ok (.putfield 7, 3) := dk_181 0 7 (dk_at dksJ1_deleteEntry_0 17 rfl rfl)
theorem dJ1_deleteEntry_20 : decode cJ1_deleteEntry 20 = .ok (.aload_n 1, 1) := dk_43 (dk_at dksJ1_deleteEntry_0 20 rfl rfl)
theorem dJ1_deleteEntry_21 : decode cJ1_deleteEntry 21 = .ok (.getfield 111, 3) := dk_180 0 111 (dk_at dksJ1_deleteEntry_0 21 rfl rfl)
theorem dJ1_deleteEntry_24 : decode cJ1_deleteEntry 24 = .ok (.ifnull 33, 3) := dk_198 0 33 (dk_at dksJ1_deleteEntry_1 0 rfl rfl)
theorem dJ1_deleteEntry_27 : decode cJ1_deleteEntry 27 = .ok (.aload_n 1, 1) := dk_43 (dk_at dksJ1_deleteEntry_1 3 rfl rfl)
theorem dJ1_deleteEntry_28 : decode cJ1_deleteEntry 28 = .ok (.getfield 114, 3) := dk_180 0 114 (dk_at dksJ1_deleteEntry_1 4 rfl rfl)
theorem dJ1_deleteEntry_31 : decode cJ1_deleteEntry 31 = .ok (.ifnull 26, 3) := dk_198 0 26 (dk_at dksJ1_deleteEntry_1 7 rfl rfl)
theorem dJ1_deleteEntry_34 : decode cJ1_deleteEntry 34 = .ok (.aload_n 1, 1) := dk_43 (dk_at dksJ1_deleteEntry_1 10 rfl rfl)
theorem dJ1_deleteEntry_35 : decode cJ1_deleteEntry 35 = .ok (.invokestatic 68, 3) := dk_184 0 68 (dk_at dksJ1_deleteEntry_1 11 rfl rfl)
theorem dJ1_deleteEntry_38 : decode cJ1_deleteEntry 38 = .ok (.astore_n 2, 1) := dk_77 (dk_at dksJ1_deleteEntry_1 14 rfl rfl)
theorem dJ1_deleteEntry_39 : decode cJ1_deleteEntry 39 = .ok (.aload_n 1, 1) := dk_43 (dk_at dksJ1_deleteEntry_1 15 rfl rfl)
theorem dJ1_deleteEntry_40 : decode cJ1_deleteEntry 40 = .ok (.aload_n 2, 1) := dk_44 (dk_at dksJ1_deleteEntry_1 16 rfl rfl)
theorem dJ1_deleteEntry_41 : decode cJ1_deleteEntry 41 = .ok (.getfield 105, 3) := dk_180 0 105 (dk_at dksJ1_deleteEntry_1 17 rfl rfl)
theorem dJ1_deleteEntry_44 : decode cJ1_deleteEntry 44 = .ok (.putfield 105, 3) := dk_181 0 105 (dk_at dksJ1_deleteEntry_1 20 rfl rfl)
theorem dJ1_deleteEntry_47 : decode cJ1_deleteEntry 47 = .ok (.aload_n 1, 1) := dk_43 (dk_at dksJ1_deleteEntry_1 23 rfl rfl)
theorem dJ1_deleteEntry_48 : decode cJ1_deleteEntry 48 = .ok (.aload_n 2, 1) := dk_44 (dk_at dksJ1_deleteEntry_2 0 rfl rfl)
theorem dJ1_deleteEntry_49 : decode cJ1_deleteEntry 49 = .ok (.getfield 58, 3) := dk_180 0 58 (dk_at dksJ1_deleteEntry_2 1 rfl rfl)
theorem dJ1_deleteEntry_52 : decode cJ1_deleteEntry 52 = .ok (.putfield 58, 3) := dk_181 0 58 (dk_at dksJ1_deleteEntry_2 4 rfl rfl)
theorem dJ1_deleteEntry_55 : decode cJ1_deleteEntry 55 = .ok (.aload_n 2, 1) := dk_44 (dk_at dksJ1_deleteEntry_2 7 rfl rfl)
theorem dJ1_deleteEntry_56 : decode cJ1_deleteEntry 56 = .ok (.astore_n 1, 1) := dk_76 (dk_at dksJ1_deleteEntry_2 8 rfl rfl)
theorem dJ1_deleteEntry_57 : decode cJ1_deleteEntry 57 = .ok (.aload_n 1, 1) := dk_43 (dk_at dksJ1_deleteEntry_2 9 rfl rfl)
theorem dJ1_deleteEntry_58 : decode cJ1_deleteEntry 58 = .ok (.getfield 111, 3) := dk_180 0 111 (dk_at dksJ1_deleteEntry_2 10 rfl rfl)
theorem dJ1_deleteEntry_61 : decode cJ1_deleteEntry 61 = .ok (.ifnull 10, 3) := dk_198 0 10 (dk_at dksJ1_deleteEntry_2 13 rfl rfl)
theorem dJ1_deleteEntry_64 : decode cJ1_deleteEntry 64 = .ok (.aload_n 1, 1) := dk_43 (dk_at dksJ1_deleteEntry_2 16 rfl rfl)
theorem dJ1_deleteEntry_65 : decode cJ1_deleteEntry 65 = .ok (.getfield 111, 3) := dk_180 0 111 (dk_at dksJ1_deleteEntry_2 17 rfl rfl)
theorem dJ1_deleteEntry_68 : decode cJ1_deleteEntry 68 = .ok (.goto 7, 3) := dk_167 0 7 (dk_at dksJ1_deleteEntry_2 20 rfl rfl)
theorem dJ1_deleteEntry_71 : decode cJ1_deleteEntry 71 = .ok (.aload_n 1, 1) := dk_43 (dk_at dksJ1_deleteEntry_2 23 rfl rfl)
theorem dJ1_deleteEntry_72 : decode cJ1_deleteEntry 72 = .ok (.getfield 114, 3) := dk_180 0 114 (dk_at dksJ1_deleteEntry_3 0 rfl rfl)
theorem dJ1_deleteEntry_75 : decode cJ1_deleteEntry 75 = .ok (.astore_n 2, 1) := dk_77 (dk_at dksJ1_deleteEntry_3 3 rfl rfl)
theorem dJ1_deleteEntry_76 : decode cJ1_deleteEntry 76 = .ok (.aload_n 2, 1) := dk_44 (dk_at dksJ1_deleteEntry_3 4 rfl rfl)
theorem dJ1_deleteEntry_77 : decode cJ1_deleteEntry 77 = .ok (.ifnull 87, 3) := dk_198 0 87 (dk_at dksJ1_deleteEntry_3 5 rfl rfl)
theorem dJ1_deleteEntry_80 : decode cJ1_deleteEntry 80 = .ok (.aload_n 2, 1) := dk_44 (dk_at dksJ1_deleteEntry_3 8 rfl rfl)
theorem dJ1_deleteEntry_81 : decode cJ1_deleteEntry 81 = .ok (.aload_n 1, 1) := dk_43 (dk_at dksJ1_deleteEntry_3 9 rfl rfl)
theorem dJ1_deleteEntry_82 : decode cJ1_deleteEntry 82 = .ok (.getfield 124, 3) := dk_180 0 124 (dk_at dksJ1_deleteEntry_3 10 rfl rfl)
theorem dJ1_deleteEntry_85 : decode cJ1_deleteEntry 85 = .ok (.putfield 124, 3) := dk_181 0 124 (dk_at dksJ1_deleteEntry_3 13 rfl rfl)
theorem dJ1_deleteEntry_88 : decode cJ1_deleteEntry 88 = .ok (.aload_n 1, 1) := dk_43 (dk_at dksJ1_deleteEntry_3 16 rfl rfl)
theorem dJ1_deleteEntry_89 : decode cJ1_deleteEntry 89 = .ok (.getfield 124, 3) := dk_180 0 124 (dk_at dksJ1_deleteEntry_3 17 rfl rfl)
theorem dJ1_deleteEntry_92 : decode cJ1_deleteEntry 92 = .ok (.ifnonnull 11, 3) := dk_199 0 11 (dk_at dksJ1_deleteEntry_3 20 rfl rfl)
theorem dJ1_deleteEntry_95 : decode cJ1_deleteEntry 95 = .ok (.aload_n 0, 1) := dk_42 (dk_at dksJ1_deleteEntry_3 23 rfl rfl)
theorem dJ1_deleteEntry_96 : decode cJ1_deleteEntry 96 = .ok (.aload_n 2, 1) := dk_44 (dk_at dksJ1_deleteEntry_4 0 rfl rfl)
theorem dJ1_deleteEntry_97 : decode cJ1_deleteEntry 97 = .ok (.putfield 101, 3) := dk_181 0 101 (dk_at dksJ1_deleteEntry_4 1 rfl rfl)
theorem dJ1_deleteEntry_100 : decode cJ1_deleteEntry 100 = .ok (.goto 33, 3) := dk_167 0 33 (dk_at dksJ1_deleteEntry_4 4 rfl rfl)
theorem dJ1_deleteEntry_103 : decode cJ1_deleteEntry 103 = .ok (.aload_n 1, 1) := dk_43 (dk_at dksJ1_deleteEntry_4 7 rfl rfl)
theorem dJ1_deleteEntry_104 : decode cJ1_deleteEntry 104 = .ok (.aload_n 1, 1) := dk_43 (dk_at dksJ1_deleteEntry_4 8 rfl rfl)
theorem dJ1_deleteEntry_105 : decode cJ1_deleteEntry 105 = .ok (.getfield 124, 3) := dk_180 0 124 (dk_at dksJ1_deleteEntry_4 9 rfl rfl)
theorem dJ1_deleteEntry_108 : decode cJ1_deleteEntry 108 = .ok (.getfield 111, 3) := dk_180 0 111 (dk_at dksJ1_deleteEntry_4 12 rfl rfl)
theorem dJ1_deleteEntry_111 : decode cJ1_deleteEntry 111 = .ok (.if_acmp .ne 14, 3) := dk_166 0 14 (dk_at dksJ1_deleteEntry_4 15 rfl rfl)
theorem dJ1_deleteEntry_114 : decode cJ1_deleteEntry 114 = .ok (.aload_n 1, 1) := dk_43 (dk_at dksJ1_deleteEntry_4 18 rfl rfl)
theorem dJ1_deleteEntry_115 : decode cJ1_deleteEntry 115 = .ok (.getfield 124, 3) := dk_180 0 124 (dk_at dksJ1_deleteEntry_4 19 rfl rfl)
theorem dJ1_deleteEntry_118 : decode cJ1_deleteEntry 118 = .ok (.aload_n 2, 1) := dk_44 (dk_at dksJ1_deleteEntry_4 22 rfl rfl)
theorem dJ1_deleteEntry_119 : decode cJ1_deleteEntry 119 = .ok (.putfield 111, 3) := dk_181 0 111 (dk_at dksJ1_deleteEntry_5 0 rfl rfl)
theorem dJ1_deleteEntry_122 : decode cJ1_deleteEntry 122 = .ok (.goto 11, 3) := dk_167 0 11 (dk_at dksJ1_deleteEntry_5 3 rfl rfl)
theorem dJ1_deleteEntry_125 : decode cJ1_deleteEntry 125 = .ok (.aload_n 1, 1) := dk_43 (dk_at dksJ1_deleteEntry_5 6 rfl rfl)
theorem dJ1_deleteEntry_126 : decode cJ1_deleteEntry 126 = .ok (.getfield 124, 3) := dk_180 0 124 (dk_at dksJ1_deleteEntry_5 7 rfl rfl)
theorem dJ1_deleteEntry_129 : decode cJ1_deleteEntry 129 = .ok (.aload_n 2, 1) := dk_44 (dk_at dksJ1_deleteEntry_5 10 rfl rfl)
theorem dJ1_deleteEntry_130 : decode cJ1_deleteEntry 130 = .ok (.putfield 114, 3) := dk_181 0 114 (dk_at dksJ1_deleteEntry_5 11 rfl rfl)
theorem dJ1_deleteEntry_133 : decode cJ1_deleteEntry 133 = .ok (.aload_n 1, 1) := dk_43 (dk_at dksJ1_deleteEntry_5 14 rfl rfl)
theorem dJ1_deleteEntry_134 : decode cJ1_deleteEntry 134 = .ok (.aload_n 1, 1) := dk_43 (dk_at dksJ1_deleteEntry_5 15 rfl rfl)
theorem dJ1_deleteEntry_135 : decode cJ1_deleteEntry 135 = .ok (.aload_n 1, 1) := dk_43 (dk_at dksJ1_deleteEntry_5 16 rfl rfl)
theorem dJ1_deleteEntry_136 : decode cJ1_deleteEntry 136 = .ok (.aconst_null, 1) := dk_1 (dk_at dksJ1_deleteEntry_5 17 rfl rfl)
theorem dJ1_deleteEntry_137 : decode cJ1_deleteEntry 137 = .ok (.dup_x1, 1) := dk_90 (dk_at dksJ1_deleteEntry_5 18 rfl rfl)
theorem dJ1_deleteEntry_138 : decode cJ1_deleteEntry 138 = .ok (.putfield 124, 3) := dk_181 0 124 (dk_at dksJ1_deleteEntry_5 19 rfl rfl)
theorem dJ1_deleteEntry_141 : decode cJ1_deleteEntry 141 = .ok (.dup_x1, 1) := dk_90 (dk_at dksJ1_deleteEntry_5 22 rfl rfl)
theorem dJ1_deleteEntry_142 : decode cJ1_deleteEntry 142 = .ok (.putfield 114, 3) := dk_181 0 114 (dk_at dksJ1_deleteEntry_6 0 rfl rfl)
theorem dJ1_deleteEntry_145 : decode cJ1_deleteEntry 145 = .ok (.putfield 111, 3) := dk_181 0 111 (dk_at dksJ1_deleteEntry_6 3 rfl rfl)
theorem dJ1_deleteEntry_148 : decode cJ1_deleteEntry 148 = .ok (.aload_n 1, 1) := dk_43 (dk_at dksJ1_deleteEntry_6 6 rfl rfl)
theorem dJ1_deleteEntry_149 : decode cJ1_deleteEntry 149 = .ok (.getfield 290, 3) := dk_180 1 34 (dk_at dksJ1_deleteEntry_6 7 rfl rfl)
theorem dJ1_deleteEntry_152 : decode cJ1_deleteEntry 152 = .ok (.iconst 1, 1) := dk_4 (dk_at dksJ1_deleteEntry_6 10 rfl rfl)
theorem dJ1_deleteEntry_153 : decode cJ1_deleteEntry 153 = .ok (.if_icmp .ne 92, 3) := dk_160 0 92 (dk_at dksJ1_deleteEntry_6 11 rfl rfl)
theorem dJ1_deleteEntry_156 : decode cJ1_deleteEntry 156 = .ok (.aload_n 0, 1) := dk_42 (dk_at dksJ1_deleteEntry_6 14 rfl rfl)
theorem dJ1_deleteEntry_157 : decode cJ1_deleteEntry 157 = .ok (.aload_n 2, 1) := dk_44 (dk_at dksJ1_deleteEntry_6 15 rfl rfl)
theorem dJ1_deleteEntry_158 : decode cJ1_deleteEntry 158 = .ok (.invokevirtual 317, 3) := dk_182 1 61 (dk_at dksJ1_deleteEntry_6 16 rfl rfl)
theorem dJ1_deleteEntry_161 : decode cJ1_deleteEntry 161 = .ok (.goto 84, 3) := dk_167 0 84 (dk_at dksJ1_deleteEntry_6 19 rfl rfl)
theorem dJ1_deleteEntry_164 : decode cJ1_deleteEntry 164 = .ok (.aload_n 1, 1) := dk_43 (dk_at dksJ1_deleteEntry_6 22 rfl rfl)
theorem dJ1_deleteEntry_165 : decode cJ1_deleteEntry 165 = .ok (.getfield 124, 3) := dk_180 0 124 (dk_at dksJ1_deleteEntry_7 0 rfl rfl)
theorem dJ1_deleteEntry_168 : decode cJ1_deleteEntry 168 = .ok (.ifnonnull 11, 3) := dk_199 0 11 (dk_at dksJ1_deleteEntry_7 3 rfl rfl)
theorem dJ1_deleteEntry_171 : decode cJ1_deleteEntry 171 = .ok (.aload_n 0, 1) := dk_42 (dk_at dksJ1_deleteEntry_7 6 rfl rfl)
theorem dJ1_deleteEntry_172 : decode cJ1_deleteEntry 172 = .ok (.aconst_null, 1) := dk_1 (dk_at dksJ1_deleteEntry_7 7 rfl rfl)
theorem dJ1_deleteEntry_173 : decode cJ1_deleteEntry 173 = .ok (.putfield 101, 3) := dk_181 0 101 (dk_at dksJ1_deleteEntry_7 8 rfl rfl)
theorem dJ1_deleteEntry_176 : decode cJ1_deleteEntry 176 = .ok (.goto 69, 3) := dk_167 0 69 (dk_at dksJ1_deleteEntry_7 11 rfl rfl)
theorem dJ1_deleteEntry_179 : decode cJ1_deleteEntry 179 = .ok (.aload_n 1, 1) := dk_43 (dk_at dksJ1_deleteEntry_7 14 rfl rfl)
theorem dJ1_deleteEntry_180 : decode cJ1_deleteEntry 180 = .ok (.getfield 290, 3) := dk_180 1 34 (dk_at dksJ1_deleteEntry_7 15 rfl rfl)
theorem dJ1_deleteEntry_183 : decode cJ1_deleteEntry 183 = .ok (.iconst 1, 1) := dk_4 (dk_at dksJ1_deleteEntry_7 18 rfl rfl)
theorem dJ1_deleteEntry_184 : decode cJ1_deleteEntry 184 = .ok (.if_icmp .ne 8, 3) := dk_160 0 8 (dk_at dksJ1_deleteEntry_7 19 rfl rfl)
theorem dJ1_deleteEntry_187 : decode cJ1_deleteEntry 187 = .ok (.aload_n 0, 1) := dk_42 (dk_at dksJ1_deleteEntry_7 22 rfl rfl)
theorem dJ1_deleteEntry_188 : decode cJ1_deleteEntry 188 = .ok (.aload_n 1, 1) := dk_43 (dk_at dksJ1_deleteEntry_7 23 rfl rfl)
theorem dJ1_deleteEntry_189 : decode cJ1_deleteEntry 189 = .ok (.invokevirtual 317, 3) := dk_182 1 61 (dk_at dksJ1_deleteEntry_8 0 rfl rfl)
theorem dJ1_deleteEntry_192 : decode cJ1_deleteEntry 192 = .ok (.aload_n 1, 1) := dk_43 (dk_at dksJ1_deleteEntry_8 3 rfl rfl)
theorem dJ1_deleteEntry_193 : decode cJ1_deleteEntry 193 = .ok (.getfield 124, 3) := dk_180 0 124 (dk_at dksJ1_deleteEntry_8 4 rfl rfl)
theorem dJ1_deleteEntry_196 : decode cJ1_deleteEntry 196 = .ok (.ifnull 49, 3) := dk_198 0 49 (dk_at dksJ1_deleteEntry_8 7 rfl rfl)
theorem dJ1_deleteEntry_199 : decode cJ1_deleteEntry 199 = .ok (.aload_n 1, 1) := dk_43 (dk_at dksJ1_deleteEntry_8 10 rfl rfl)
theorem dJ1_deleteEntry_200 : decode cJ1_deleteEntry 200 = .ok (.aload_n 1, 1) := dk_43 (dk_at dksJ1_deleteEntry_8 11 rfl rfl)
theorem dJ1_deleteEntry_201 : decode cJ1_deleteEntry 201 = .ok (.getfield 124, 3) := dk_180 0 124 (dk_at dksJ1_deleteEntry_8 12 rfl rfl)
theorem dJ1_deleteEntry_204 : decode cJ1_deleteEntry 204 = .ok (.getfield 111, 3) := dk_180 0 111 (dk_at dksJ1_deleteEntry_8 15 rfl rfl)
theorem dJ1_deleteEntry_207 : decode cJ1_deleteEntry 207 = .ok (.if_acmp .ne 14, 3) := dk_166 0 14 (dk_at dksJ1_deleteEntry_8 18 rfl rfl)
theorem dJ1_deleteEntry_210 : decode cJ1_deleteEntry 210 = .ok (.aload_n 1, 1) := dk_43 (dk_at dksJ1_deleteEntry_8 21 rfl rfl)
theorem dJ1_deleteEntry_211 : decode cJ1_deleteEntry 211 = .ok (.getfield 124, 3) := dk_180 0 124 (dk_at dksJ1_deleteEntry_9 0 rfl rfl)
theorem dJ1_deleteEntry_214 : decode cJ1_deleteEntry 214 = .ok (.aconst_null, 1) := dk_1 (dk_at dksJ1_deleteEntry_9 3 rfl rfl)
theorem dJ1_deleteEntry_215 : decode cJ1_deleteEntry 215 = .ok (.putfield 111, 3) := dk_181 0 111 (dk_at dksJ1_deleteEntry_9 4 rfl rfl)
theorem dJ1_deleteEntry_218 : decode cJ1_deleteEntry 218 = .ok (.goto 22, 3) := dk_167 0 22 (dk_at dksJ1_deleteEntry_9 7 rfl rfl)
theorem dJ1_deleteEntry_221 : decode cJ1_deleteEntry 221 = .ok (.aload_n 1, 1) := dk_43 (dk_at dksJ1_deleteEntry_9 10 rfl rfl)
theorem dJ1_deleteEntry_222 : decode cJ1_deleteEntry 222 = .ok (.aload_n 1, 1) := dk_43 (dk_at dksJ1_deleteEntry_9 11 rfl rfl)
theorem dJ1_deleteEntry_223 : decode cJ1_deleteEntry 223 = .ok (.getfield 124, 3) := dk_180 0 124 (dk_at dksJ1_deleteEntry_9 12 rfl rfl)
theorem dJ1_deleteEntry_226 : decode cJ1_deleteEntry 226 = .ok (.getfield 114, 3) := dk_180 0 114 (dk_at dksJ1_deleteEntry_9 15 rfl rfl)
theorem dJ1_deleteEntry_229 : decode cJ1_deleteEntry 229 = .ok (.if_acmp .ne 11, 3) := dk_166 0 11 (dk_at dksJ1_deleteEntry_9 18 rfl rfl)
theorem dJ1_deleteEntry_232 : decode cJ1_deleteEntry 232 = .ok (.aload_n 1, 1) := dk_43 (dk_at dksJ1_deleteEntry_9 21 rfl rfl)
theorem dJ1_deleteEntry_233 : decode cJ1_deleteEntry 233 = .ok (.getfield 124, 3) := dk_180 0 124 (dk_at dksJ1_deleteEntry_10 0 rfl rfl)
theorem dJ1_deleteEntry_236 : decode cJ1_deleteEntry 236 = .ok (.aconst_null, 1) := dk_1 (dk_at dksJ1_deleteEntry_10 3 rfl rfl)
theorem dJ1_deleteEntry_237 : decode cJ1_deleteEntry 237 = .ok (.putfield 114, 3) := dk_181 0 114 (dk_at dksJ1_deleteEntry_10 4 rfl rfl)
theorem dJ1_deleteEntry_240 : decode cJ1_deleteEntry 240 = .ok (.aload_n 1, 1) := dk_43 (dk_at dksJ1_deleteEntry_10 7 rfl rfl)
theorem dJ1_deleteEntry_241 : decode cJ1_deleteEntry 241 = .ok (.aconst_null, 1) := dk_1 (dk_at dksJ1_deleteEntry_10 8 rfl rfl)
theorem dJ1_deleteEntry_242 : decode cJ1_deleteEntry 242 = .ok (.putfield 124, 3) := dk_181 0 124 (dk_at dksJ1_deleteEntry_10 9 rfl rfl)
theorem dJ1_deleteEntry_245 : decode cJ1_deleteEntry 245 = .ok (.return_, 1) := dk_177 (dk_at dksJ1_deleteEntry_10 12 rfl rfl)
abbrev kJ1_deleteEntry : KX := (cJ1_deleteEntry, "java/util/TreeMap", "deleteEntry", 3, none, [], 2)
abbrev cJ1_fixAfterDeletion : ByteArray := prog_75_method_85_code
def yJ1_fixAfterDeletion : MethodName := ⟨RJ1, "fixAfterDeletion", "(Ljava/util/TreeMap$Entry;)V"⟩
def dkwJ1_fixAfterDeletion_14 : List UInt8 := [182, 1, 58, 42, 180, 0, 101, 76, 167, 254, 170, 43, 4, 184, 1, 51, 177]
abbrev dktJ1_fixAfterDeletion_14 : List UInt8 := dkwJ1_fixAfterDeletion_14 ++ []
def dkwJ1_fixAfterDeletion_13 : List UInt8 := [184, 1, 51, 43, 184, 1, 38, 4, 184, 1, 51, 44, 184, 1, 41, 4, 184, 1, 51, 42, 43, 184, 1, 38]
abbrev dktJ1_fixAfterDeletion_13 : List UInt8 := dkwJ1_fixAfterDeletion_13 ++ dktJ1_fixAfterDeletion_14
def dkwJ1_fixAfterDeletion_12 : List UInt8 := [184, 1, 51, 42, 44, 182, 1, 55, 43, 184, 1, 38, 184, 1, 41, 77, 44, 43, 184, 1, 38, 184, 1, 47]
abbrev dktJ1_fixAfterDeletion_12 : List UInt8 := dkwJ1_fixAfterDeletion_12 ++ dktJ1_fixAfterDeletion_13
def dkwJ1_fixAfterDeletion_11 : List UInt8 := [167, 0, 80, 44, 184, 1, 41, 184, 1, 47, 4, 160, 0, 29, 44, 184, 1, 44, 4, 184, 1, 51, 44, 3]
abbrev dktJ1_fixAfterDeletion_11 : List UInt8 := dkwJ1_fixAfterDeletion_11 ++ dktJ1_fixAfterDeletion_12
def dkwJ1_fixAfterDeletion_10 : List UInt8 := [160, 0, 27, 44, 184, 1, 41, 184, 1, 47, 4, 160, 0, 16, 44, 3, 184, 1, 51, 43, 184, 1, 38, 76]
abbrev dktJ1_fixAfterDeletion_10 : List UInt8 := dkwJ1_fixAfterDeletion_10 ++ dktJ1_fixAfterDeletion_11
def dkwJ1_fixAfterDeletion_9 : List UInt8 := [42, 43, 184, 1, 38, 182, 1, 58, 43, 184, 1, 38, 184, 1, 41, 77, 44, 184, 1, 44, 184, 1, 47, 4]
abbrev dktJ1_fixAfterDeletion_9 : List UInt8 := dkwJ1_fixAfterDeletion_9 ++ dktJ1_fixAfterDeletion_10
def dkwJ1_fixAfterDeletion_8 : List UInt8 := [184, 1, 41, 77, 44, 184, 1, 47, 154, 0, 32, 44, 4, 184, 1, 51, 43, 184, 1, 38, 3, 184, 1, 51]
abbrev dktJ1_fixAfterDeletion_8 : List UInt8 := dkwJ1_fixAfterDeletion_8 ++ dktJ1_fixAfterDeletion_9
def dkwJ1_fixAfterDeletion_7 : List UInt8 := [4, 184, 1, 51, 42, 43, 184, 1, 38, 182, 1, 55, 42, 180, 0, 101, 76, 167, 255, 73, 43, 184, 1, 38]
abbrev dktJ1_fixAfterDeletion_7 : List UInt8 := dkwJ1_fixAfterDeletion_7 ++ dktJ1_fixAfterDeletion_8
def dkwJ1_fixAfterDeletion_6 : List UInt8 := [77, 44, 43, 184, 1, 38, 184, 1, 47, 184, 1, 51, 43, 184, 1, 38, 4, 184, 1, 51, 44, 184, 1, 44]
abbrev dktJ1_fixAfterDeletion_6 : List UInt8 := dkwJ1_fixAfterDeletion_6 ++ dktJ1_fixAfterDeletion_7
def dkwJ1_fixAfterDeletion_5 : List UInt8 := [184, 1, 41, 4, 184, 1, 51, 44, 3, 184, 1, 51, 42, 44, 182, 1, 58, 43, 184, 1, 38, 184, 1, 44]
abbrev dktJ1_fixAfterDeletion_5 : List UInt8 := dkwJ1_fixAfterDeletion_5 ++ dktJ1_fixAfterDeletion_6
def dkwJ1_fixAfterDeletion_4 : List UInt8 := [184, 1, 51, 43, 184, 1, 38, 76, 167, 0, 80, 44, 184, 1, 44, 184, 1, 47, 4, 160, 0, 29, 44]
abbrev dktJ1_fixAfterDeletion_4 : List UInt8 := dkwJ1_fixAfterDeletion_4 ++ dktJ1_fixAfterDeletion_5
def dkwJ1_fixAfterDeletion_3 : List UInt8 := [184, 1, 41, 184, 1, 47, 4, 160, 0, 27, 44, 184, 1, 44, 184, 1, 47, 4, 160, 0, 16, 44, 3]
abbrev dktJ1_fixAfterDeletion_3 : List UInt8 := dkwJ1_fixAfterDeletion_3 ++ dktJ1_fixAfterDeletion_4
def dkwJ1_fixAfterDeletion_2 : List UInt8 := [184, 1, 38, 3, 184, 1, 51, 42, 43, 184, 1, 38, 182, 1, 55, 43, 184, 1, 38, 184, 1, 44, 77, 44]
abbrev dktJ1_fixAfterDeletion_2 : List UInt8 := dkwJ1_fixAfterDeletion_2 ++ dktJ1_fixAfterDeletion_3
def dkwJ1_fixAfterDeletion_1 : List UInt8 := [166, 0, 162, 43, 184, 1, 38, 184, 1, 44, 77, 44, 184, 1, 47, 154, 0, 32, 44, 4, 184, 1, 51, 43]
abbrev dktJ1_fixAfterDeletion_1 : List UInt8 := dkwJ1_fixAfterDeletion_1 ++ dktJ1_fixAfterDeletion_2
def dkwJ1_fixAfterDeletion_0 : List UInt8 := [43, 42, 180, 0, 101, 165, 1, 84, 43, 184, 1, 47, 4, 160, 1, 76, 43, 43, 184, 1, 38, 184, 1, 41]
abbrev dktJ1_fixAfterDeletion_0 : List UInt8 := dkwJ1_fixAfterDeletion_0 ++ dktJ1_fixAfterDeletion_1
theorem dksJ1_fixAfterDeletion_0 : cJ1_fixAfterDeletion.data.toList.drop 0 = dktJ1_fixAfterDeletion_0 := by decide +kernel
theorem dksJ1_fixAfterDeletion_1 : cJ1_fixAfterDeletion.data.toList.drop 24 = dktJ1_fixAfterDeletion_1 := dk_seg dksJ1_fixAfterDeletion_0 24 rfl rfl
theorem dksJ1_fixAfterDeletion_2 : cJ1_fixAfterDeletion.data.toList.drop 48 = dktJ1_fixAfterDeletion_2 := dk_seg dksJ1_fixAfterDeletion_1 24 rfl rfl
theorem dksJ1_fixAfterDeletion_3 : cJ1_fixAfterDeletion.data.toList.drop 72 = dktJ1_fixAfterDeletion_3 := dk_seg dksJ1_fixAfterDeletion_2 24 rfl rfl
theorem dksJ1_fixAfterDeletion_4 : cJ1_fixAfterDeletion.data.toList.drop 95 = dktJ1_fixAfterDeletion_4 := dk_seg dksJ1_fixAfterDeletion_3 23 rfl rfl
theorem dksJ1_fixAfterDeletion_5 : cJ1_fixAfterDeletion.data.toList.drop 118 = dktJ1_fixAfterDeletion_5 := dk_seg dksJ1_fixAfterDeletion_4 23 rfl rfl
theorem dksJ1_fixAfterDeletion_6 : cJ1_fixAfterDeletion.data.toList.drop 142 = dktJ1_fixAfterDeletion_6 := dk_seg dksJ1_fixAfterDeletion_5 24 rfl rfl
theorem dksJ1_fixAfterDeletion_7 : cJ1_fixAfterDeletion.data.toList.drop 166 = dktJ1_fixAfterDeletion_7 := dk_seg dksJ1_fixAfterDeletion_6 24 rfl rfl
theorem dksJ1_fixAfterDeletion_8 : cJ1_fixAfterDeletion.data.toList.drop 190 = dktJ1_fixAfterDeletion_8 := dk_seg dksJ1_fixAfterDeletion_7 24 rfl rfl
theorem dksJ1_fixAfterDeletion_9 : cJ1_fixAfterDeletion.data.toList.drop 214 = dktJ1_fixAfterDeletion_9 := dk_seg dksJ1_fixAfterDeletion_8 24 rfl rfl
theorem dksJ1_fixAfterDeletion_10 : cJ1_fixAfterDeletion.data.toList.drop 238 = dktJ1_fixAfterDeletion_10 := dk_seg dksJ1_fixAfterDeletion_9 24 rfl rfl
theorem dksJ1_fixAfterDeletion_11 : cJ1_fixAfterDeletion.data.toList.drop 262 = dktJ1_fixAfterDeletion_11 := dk_seg dksJ1_fixAfterDeletion_10 24 rfl rfl
theorem dksJ1_fixAfterDeletion_12 : cJ1_fixAfterDeletion.data.toList.drop 286 = dktJ1_fixAfterDeletion_12 := dk_seg dksJ1_fixAfterDeletion_11 24 rfl rfl
theorem dksJ1_fixAfterDeletion_13 : cJ1_fixAfterDeletion.data.toList.drop 310 = dktJ1_fixAfterDeletion_13 := dk_seg dksJ1_fixAfterDeletion_12 24 rfl rfl
theorem dksJ1_fixAfterDeletion_14 : cJ1_fixAfterDeletion.data.toList.drop 334 = dktJ1_fixAfterDeletion_14 := dk_seg dksJ1_fixAfterDeletion_13 24 rfl rfl
theorem dJ1_fixAfterDeletion_0 : decode cJ1_fixAfterDeletion 0 = .ok (.aload_n 1, 1) := dk_43 (dk_at dksJ1_fixAfterDeletion_0 0 rfl rfl)
theorem dJ1_fixAfterDeletion_1 : decode cJ1_fixAfterDeletion 1 = .ok (.aload_n 0, 1) := dk_42 (dk_at dksJ1_fixAfterDeletion_0 1 rfl rfl)
theorem dJ1_fixAfterDeletion_2 : decode cJ1_fixAfterDeletion 2 = .ok (.getfield 101, 3) := dk_180 0 101 (dk_at dksJ1_fixAfterDeletion_0 2 rfl rfl)
theorem dJ1_fixAfterDeletion_5 : decode cJ1_fixAfterDeletion 5 = .ok (.if_acmp .eq 340, 3) := dk_165 1 84 (dk_at dksJ1_fixAfterDeletion_0 5 rfl rfl)
theorem dJ1_fixAfterDeletion_8 : decode cJ1_fixAfterDeletion 8 = .ok (.aload_n 1, 1) := dk_43 (dk_at dksJ1_fixAfterDeletion_0 8 rfl rfl)
theorem dJ1_fixAfterDeletion_9 : decode cJ1_fixAfterDeletion 9 = .ok (.invokestatic 303, 3) := dk_184 1 47 (dk_at dksJ1_fixAfterDeletion_0 9 rfl rfl)
theorem dJ1_fixAfterDeletion_12 : decode cJ1_fixAfterDeletion 12 = .ok (.iconst 1, 1) := dk_4 (dk_at dksJ1_fixAfterDeletion_0 12 rfl rfl)
theorem dJ1_fixAfterDeletion_13 : decode cJ1_fixAfterDeletion 13 = .ok (.if_icmp .ne 332, 3) := dk_160 1 76 (dk_at dksJ1_fixAfterDeletion_0 13 rfl rfl)
theorem dJ1_fixAfterDeletion_16 : decode cJ1_fixAfterDeletion 16 = .ok (.aload_n 1, 1) := dk_43 (dk_at dksJ1_fixAfterDeletion_0 16 rfl rfl)
theorem dJ1_fixAfterDeletion_17 : decode cJ1_fixAfterDeletion 17 = .ok (.aload_n 1, 1) := dk_43 (dk_at dksJ1_fixAfterDeletion_0 17 rfl rfl)
theorem dJ1_fixAfterDeletion_18 : decode cJ1_fixAfterDeletion 18 = .ok (.invokestatic 294, 3) := dk_184 1 38 (dk_at dksJ1_fixAfterDeletion_0 18 rfl rfl)
theorem dJ1_fixAfterDeletion_21 : decode cJ1_fixAfterDeletion 21 = .ok (.invokestatic 297, 3) := dk_184 1 41 (dk_at dksJ1_fixAfterDeletion_0 21 rfl rfl)
theorem dJ1_fixAfterDeletion_24 : decode cJ1_fixAfterDeletion 24 = .ok (.if_acmp .ne 162, 3) := dk_166 0 162 (dk_at dksJ1_fixAfterDeletion_1 0 rfl rfl)
theorem dJ1_fixAfterDeletion_27 : decode cJ1_fixAfterDeletion 27 = .ok (.aload_n 1, 1) := dk_43 (dk_at dksJ1_fixAfterDeletion_1 3 rfl rfl)
theorem dJ1_fixAfterDeletion_28 : decode cJ1_fixAfterDeletion 28 = .ok (.invokestatic 294, 3) := dk_184 1 38 (dk_at dksJ1_fixAfterDeletion_1 4 rfl rfl)
theorem dJ1_fixAfterDeletion_31 : decode cJ1_fixAfterDeletion 31 = .ok (.invokestatic 300, 3) := dk_184 1 44 (dk_at dksJ1_fixAfterDeletion_1 7 rfl rfl)
theorem dJ1_fixAfterDeletion_34 : decode cJ1_fixAfterDeletion 34 = .ok (.astore_n 2, 1) := dk_77 (dk_at dksJ1_fixAfterDeletion_1 10 rfl rfl)
theorem dJ1_fixAfterDeletion_35 : decode cJ1_fixAfterDeletion 35 = .ok (.aload_n 2, 1) := dk_44 (dk_at dksJ1_fixAfterDeletion_1 11 rfl rfl)
theorem dJ1_fixAfterDeletion_36 : decode cJ1_fixAfterDeletion 36 = .ok (.invokestatic 303, 3) := dk_184 1 47 (dk_at dksJ1_fixAfterDeletion_1 12 rfl rfl)
theorem dJ1_fixAfterDeletion_39 : decode cJ1_fixAfterDeletion 39 = .ok (.ifCond .ne 32, 3) := dk_154 0 32 (dk_at dksJ1_fixAfterDeletion_1 15 rfl rfl)
theorem dJ1_fixAfterDeletion_42 : decode cJ1_fixAfterDeletion 42 = .ok (.aload_n 2, 1) := dk_44 (dk_at dksJ1_fixAfterDeletion_1 18 rfl rfl)
theorem dJ1_fixAfterDeletion_43 : decode cJ1_fixAfterDeletion 43 = .ok (.iconst 1, 1) := dk_4 (dk_at dksJ1_fixAfterDeletion_1 19 rfl rfl)
theorem dJ1_fixAfterDeletion_44 : decode cJ1_fixAfterDeletion 44 = .ok (.invokestatic 307, 3) := dk_184 1 51 (dk_at dksJ1_fixAfterDeletion_1 20 rfl rfl)
theorem dJ1_fixAfterDeletion_47 : decode cJ1_fixAfterDeletion 47 = .ok (.aload_n 1, 1) := dk_43 (dk_at dksJ1_fixAfterDeletion_1 23 rfl rfl)
theorem dJ1_fixAfterDeletion_48 : decode cJ1_fixAfterDeletion 48 = .ok (.invokestatic 294, 3) := dk_184 1 38 (dk_at dksJ1_fixAfterDeletion_2 0 rfl rfl)
theorem dJ1_fixAfterDeletion_51 : decode cJ1_fixAfterDeletion 51 = .ok (.iconst 0, 1) := dk_3 (dk_at dksJ1_fixAfterDeletion_2 3 rfl rfl)
theorem dJ1_fixAfterDeletion_52 : decode cJ1_fixAfterDeletion 52 = .ok (.invokestatic 307, 3) := dk_184 1 51 (dk_at dksJ1_fixAfterDeletion_2 4 rfl rfl)
theorem dJ1_fixAfterDeletion_55 : decode cJ1_fixAfterDeletion 55 = .ok (.aload_n 0, 1) := dk_42 (dk_at dksJ1_fixAfterDeletion_2 7 rfl rfl)
theorem dJ1_fixAfterDeletion_56 : decode cJ1_fixAfterDeletion 56 = .ok (.aload_n 1, 1) := dk_43 (dk_at dksJ1_fixAfterDeletion_2 8 rfl rfl)
theorem dJ1_fixAfterDeletion_57 : decode cJ1_fixAfterDeletion 57 = .ok (.invokestatic 294, 3) := dk_184 1 38 (dk_at dksJ1_fixAfterDeletion_2 9 rfl rfl)
theorem dJ1_fixAfterDeletion_60 : decode cJ1_fixAfterDeletion 60 = .ok (.invokevirtual 311, 3) := dk_182 1 55 (dk_at dksJ1_fixAfterDeletion_2 12 rfl rfl)
theorem dJ1_fixAfterDeletion_63 : decode cJ1_fixAfterDeletion 63 = .ok (.aload_n 1, 1) := dk_43 (dk_at dksJ1_fixAfterDeletion_2 15 rfl rfl)
theorem dJ1_fixAfterDeletion_64 : decode cJ1_fixAfterDeletion 64 = .ok (.invokestatic 294, 3) := dk_184 1 38 (dk_at dksJ1_fixAfterDeletion_2 16 rfl rfl)
theorem dJ1_fixAfterDeletion_67 : decode cJ1_fixAfterDeletion 67 = .ok (.invokestatic 300, 3) := dk_184 1 44 (dk_at dksJ1_fixAfterDeletion_2 19 rfl rfl)
theorem dJ1_fixAfterDeletion_70 : decode cJ1_fixAfterDeletion 70 = .ok (.astore_n 2, 1) := dk_77 (dk_at dksJ1_fixAfterDeletion_2 22 rfl rfl)
theorem dJ1_fixAfterDeletion_71 : decode cJ1_fixAfterDeletion 71 = .ok (.aload_n 2, 1) := dk_44 (dk_at dksJ1_fixAfterDeletion_2 23 rfl rfl)
theorem dJ1_fixAfterDeletion_72 : decode cJ1_fixAfterDeletion 72 = .ok (.invokestatic 297, 3) := dk_184 1 41 (dk_at dksJ1_fixAfterDeletion_3 0 rfl rfl)
theorem dJ1_fixAfterDeletion_75 : decode cJ1_fixAfterDeletion 75 = .ok (.invokestatic 303, 3) := dk_184 1 47 (dk_at dksJ1_fixAfterDeletion_3 3 rfl rfl)
theorem dJ1_fixAfterDeletion_78 : decode cJ1_fixAfterDeletion 78 = .ok (.iconst 1, 1) := dk_4 (dk_at dksJ1_fixAfterDeletion_3 6 rfl rfl)
theorem dJ1_fixAfterDeletion_79 : decode cJ1_fixAfterDeletion 79 = .ok (.if_icmp .ne 27, 3) := dk_160 0 27 (dk_at dksJ1_fixAfterDeletion_3 7 rfl rfl)
theorem dJ1_fixAfterDeletion_82 : decode cJ1_fixAfterDeletion 82 = .ok (.aload_n 2, 1) := dk_44 (dk_at dksJ1_fixAfterDeletion_3 10 rfl rfl)
theorem dJ1_fixAfterDeletion_83 : decode cJ1_fixAfterDeletion 83 = .ok (.invokestatic 300, 3) := dk_184 1 44 (dk_at dksJ1_fixAfterDeletion_3 11 rfl rfl)
theorem dJ1_fixAfterDeletion_86 : decode cJ1_fixAfterDeletion 86 = .ok (.invokestatic 303, 3) := dk_184 1 47 (dk_at dksJ1_fixAfterDeletion_3 14 rfl rfl)
theorem dJ1_fixAfterDeletion_89 : decode cJ1_fixAfterDeletion 89 = .ok (.iconst 1, 1) := dk_4 (dk_at dksJ1_fixAfterDeletion_3 17 rfl rfl)
theorem dJ1_fixAfterDeletion_90 : decode cJ1_fixAfterDeletion 90 = .ok (.if_icmp .ne 16, 3) := dk_160 0 16 (dk_at dksJ1_fixAfterDeletion_3 18 rfl rfl)
theorem dJ1_fixAfterDeletion_93 : decode cJ1_fixAfterDeletion 93 = .ok (.aload_n 2, 1) := dk_44 (dk_at dksJ1_fixAfterDeletion_3 21 rfl rfl)
theorem dJ1_fixAfterDeletion_94 : decode cJ1_fixAfterDeletion 94 = .ok (.iconst 0, 1) := dk_3 (dk_at dksJ1_fixAfterDeletion_3 22 rfl rfl)
theorem dJ1_fixAfterDeletion_95 : decode cJ1_fixAfterDeletion 95 = .ok (.invokestatic 307, 3) := dk_184 1 51 (dk_at dksJ1_fixAfterDeletion_4 0 rfl rfl)
theorem dJ1_fixAfterDeletion_98 : decode cJ1_fixAfterDeletion 98 = .ok (.aload_n 1, 1) := dk_43 (dk_at dksJ1_fixAfterDeletion_4 3 rfl rfl)
theorem dJ1_fixAfterDeletion_99 : decode cJ1_fixAfterDeletion 99 = .ok (.invokestatic 294, 3) := dk_184 1 38 (dk_at dksJ1_fixAfterDeletion_4 4 rfl rfl)
theorem dJ1_fixAfterDeletion_102 : decode cJ1_fixAfterDeletion 102 = .ok (.astore_n 1, 1) := dk_76 (dk_at dksJ1_fixAfterDeletion_4 7 rfl rfl)
theorem dJ1_fixAfterDeletion_103 : decode cJ1_fixAfterDeletion 103 = .ok (.goto 80, 3) := dk_167 0 80 (dk_at dksJ1_fixAfterDeletion_4 8 rfl rfl)
theorem dJ1_fixAfterDeletion_106 : decode cJ1_fixAfterDeletion 106 = .ok (.aload_n 2, 1) := dk_44 (dk_at dksJ1_fixAfterDeletion_4 11 rfl rfl)
theorem dJ1_fixAfterDeletion_107 : decode cJ1_fixAfterDeletion 107 = .ok (.invokestatic 300, 3) := dk_184 1 44 (dk_at dksJ1_fixAfterDeletion_4 12 rfl rfl)
theorem dJ1_fixAfterDeletion_110 : decode cJ1_fixAfterDeletion 110 = .ok (.invokestatic 303, 3) := dk_184 1 47 (dk_at dksJ1_fixAfterDeletion_4 15 rfl rfl)
theorem dJ1_fixAfterDeletion_113 : decode cJ1_fixAfterDeletion 113 = .ok (.iconst 1, 1) := dk_4 (dk_at dksJ1_fixAfterDeletion_4 18 rfl rfl)
theorem dJ1_fixAfterDeletion_114 : decode cJ1_fixAfterDeletion 114 = .ok (.if_icmp .ne 29, 3) := dk_160 0 29 (dk_at dksJ1_fixAfterDeletion_4 19 rfl rfl)
theorem dJ1_fixAfterDeletion_117 : decode cJ1_fixAfterDeletion 117 = .ok (.aload_n 2, 1) := dk_44 (dk_at dksJ1_fixAfterDeletion_4 22 rfl rfl)
theorem dJ1_fixAfterDeletion_118 : decode cJ1_fixAfterDeletion 118 = .ok (.invokestatic 297, 3) := dk_184 1 41 (dk_at dksJ1_fixAfterDeletion_5 0 rfl rfl)
theorem dJ1_fixAfterDeletion_121 : decode cJ1_fixAfterDeletion 121 = .ok (.iconst 1, 1) := dk_4 (dk_at dksJ1_fixAfterDeletion_5 3 rfl rfl)
theorem dJ1_fixAfterDeletion_122 : decode cJ1_fixAfterDeletion 122 = .ok (.invokestatic 307, 3) := dk_184 1 51 (dk_at dksJ1_fixAfterDeletion_5 4 rfl rfl)
theorem dJ1_fixAfterDeletion_125 : decode cJ1_fixAfterDeletion 125 = .ok (.aload_n 2, 1) := dk_44 (dk_at dksJ1_fixAfterDeletion_5 7 rfl rfl)
theorem dJ1_fixAfterDeletion_126 : decode cJ1_fixAfterDeletion 126 = .ok (.iconst 0, 1) := dk_3 (dk_at dksJ1_fixAfterDeletion_5 8 rfl rfl)
theorem dJ1_fixAfterDeletion_127 : decode cJ1_fixAfterDeletion 127 = .ok (.invokestatic 307, 3) := dk_184 1 51 (dk_at dksJ1_fixAfterDeletion_5 9 rfl rfl)
theorem dJ1_fixAfterDeletion_130 : decode cJ1_fixAfterDeletion 130 = .ok (.aload_n 0, 1) := dk_42 (dk_at dksJ1_fixAfterDeletion_5 12 rfl rfl)
theorem dJ1_fixAfterDeletion_131 : decode cJ1_fixAfterDeletion 131 = .ok (.aload_n 2, 1) := dk_44 (dk_at dksJ1_fixAfterDeletion_5 13 rfl rfl)
theorem dJ1_fixAfterDeletion_132 : decode cJ1_fixAfterDeletion 132 = .ok (.invokevirtual 314, 3) := dk_182 1 58 (dk_at dksJ1_fixAfterDeletion_5 14 rfl rfl)
theorem dJ1_fixAfterDeletion_135 : decode cJ1_fixAfterDeletion 135 = .ok (.aload_n 1, 1) := dk_43 (dk_at dksJ1_fixAfterDeletion_5 17 rfl rfl)
theorem dJ1_fixAfterDeletion_136 : decode cJ1_fixAfterDeletion 136 = .ok (.invokestatic 294, 3) := dk_184 1 38 (dk_at dksJ1_fixAfterDeletion_5 18 rfl rfl)
theorem dJ1_fixAfterDeletion_139 : decode cJ1_fixAfterDeletion 139 = .ok (.invokestatic 300, 3) := dk_184 1 44 (dk_at dksJ1_fixAfterDeletion_5 21 rfl rfl)
theorem dJ1_fixAfterDeletion_142 : decode cJ1_fixAfterDeletion 142 = .ok (.astore_n 2, 1) := dk_77 (dk_at dksJ1_fixAfterDeletion_6 0 rfl rfl)
theorem dJ1_fixAfterDeletion_143 : decode cJ1_fixAfterDeletion 143 = .ok (.aload_n 2, 1) := dk_44 (dk_at dksJ1_fixAfterDeletion_6 1 rfl rfl)
theorem dJ1_fixAfterDeletion_144 : decode cJ1_fixAfterDeletion 144 = .ok (.aload_n 1, 1) := dk_43 (dk_at dksJ1_fixAfterDeletion_6 2 rfl rfl)
theorem dJ1_fixAfterDeletion_145 : decode cJ1_fixAfterDeletion 145 = .ok (.invokestatic 294, 3) := dk_184 1 38 (dk_at dksJ1_fixAfterDeletion_6 3 rfl rfl)
theorem dJ1_fixAfterDeletion_148 : decode cJ1_fixAfterDeletion 148 = .ok (.invokestatic 303, 3) := dk_184 1 47 (dk_at dksJ1_fixAfterDeletion_6 6 rfl rfl)
theorem dJ1_fixAfterDeletion_151 : decode cJ1_fixAfterDeletion 151 = .ok (.invokestatic 307, 3) := dk_184 1 51 (dk_at dksJ1_fixAfterDeletion_6 9 rfl rfl)
theorem dJ1_fixAfterDeletion_154 : decode cJ1_fixAfterDeletion 154 = .ok (.aload_n 1, 1) := dk_43 (dk_at dksJ1_fixAfterDeletion_6 12 rfl rfl)
theorem dJ1_fixAfterDeletion_155 : decode cJ1_fixAfterDeletion 155 = .ok (.invokestatic 294, 3) := dk_184 1 38 (dk_at dksJ1_fixAfterDeletion_6 13 rfl rfl)
theorem dJ1_fixAfterDeletion_158 : decode cJ1_fixAfterDeletion 158 = .ok (.iconst 1, 1) := dk_4 (dk_at dksJ1_fixAfterDeletion_6 16 rfl rfl)
theorem dJ1_fixAfterDeletion_159 : decode cJ1_fixAfterDeletion 159 = .ok (.invokestatic 307, 3) := dk_184 1 51 (dk_at dksJ1_fixAfterDeletion_6 17 rfl rfl)
theorem dJ1_fixAfterDeletion_162 : decode cJ1_fixAfterDeletion 162 = .ok (.aload_n 2, 1) := dk_44 (dk_at dksJ1_fixAfterDeletion_6 20 rfl rfl)
theorem dJ1_fixAfterDeletion_163 : decode cJ1_fixAfterDeletion 163 = .ok (.invokestatic 300, 3) := dk_184 1 44 (dk_at dksJ1_fixAfterDeletion_6 21 rfl rfl)
theorem dJ1_fixAfterDeletion_166 : decode cJ1_fixAfterDeletion 166 = .ok (.iconst 1, 1) := dk_4 (dk_at dksJ1_fixAfterDeletion_7 0 rfl rfl)
theorem dJ1_fixAfterDeletion_167 : decode cJ1_fixAfterDeletion 167 = .ok (.invokestatic 307, 3) := dk_184 1 51 (dk_at dksJ1_fixAfterDeletion_7 1 rfl rfl)
theorem dJ1_fixAfterDeletion_170 : decode cJ1_fixAfterDeletion 170 = .ok (.aload_n 0, 1) := dk_42 (dk_at dksJ1_fixAfterDeletion_7 4 rfl rfl)
theorem dJ1_fixAfterDeletion_171 : decode cJ1_fixAfterDeletion 171 = .ok (.aload_n 1, 1) := dk_43 (dk_at dksJ1_fixAfterDeletion_7 5 rfl rfl)
theorem dJ1_fixAfterDeletion_172 : decode cJ1_fixAfterDeletion 172 = .ok (.invokestatic 294, 3) := dk_184 1 38 (dk_at dksJ1_fixAfterDeletion_7 6 rfl rfl)
theorem dJ1_fixAfterDeletion_175 : decode cJ1_fixAfterDeletion 175 = .ok (.invokevirtual 311, 3) := dk_182 1 55 (dk_at dksJ1_fixAfterDeletion_7 9 rfl rfl)
theorem dJ1_fixAfterDeletion_178 : decode cJ1_fixAfterDeletion 178 = .ok (.aload_n 0, 1) := dk_42 (dk_at dksJ1_fixAfterDeletion_7 12 rfl rfl)
theorem dJ1_fixAfterDeletion_179 : decode cJ1_fixAfterDeletion 179 = .ok (.getfield 101, 3) := dk_180 0 101 (dk_at dksJ1_fixAfterDeletion_7 13 rfl rfl)
theorem dJ1_fixAfterDeletion_182 : decode cJ1_fixAfterDeletion 182 = .ok (.astore_n 1, 1) := dk_76 (dk_at dksJ1_fixAfterDeletion_7 16 rfl rfl)
theorem dJ1_fixAfterDeletion_183 : decode cJ1_fixAfterDeletion 183 = .ok (.goto (-183), 3) := dk_167 255 73 (dk_at dksJ1_fixAfterDeletion_7 17 rfl rfl)
theorem dJ1_fixAfterDeletion_186 : decode cJ1_fixAfterDeletion 186 = .ok (.aload_n 1, 1) := dk_43 (dk_at dksJ1_fixAfterDeletion_7 20 rfl rfl)
theorem dJ1_fixAfterDeletion_187 : decode cJ1_fixAfterDeletion 187 = .ok (.invokestatic 294, 3) := dk_184 1 38 (dk_at dksJ1_fixAfterDeletion_7 21 rfl rfl)
theorem dJ1_fixAfterDeletion_190 : decode cJ1_fixAfterDeletion 190 = .ok (.invokestatic 297, 3) := dk_184 1 41 (dk_at dksJ1_fixAfterDeletion_8 0 rfl rfl)
theorem dJ1_fixAfterDeletion_193 : decode cJ1_fixAfterDeletion 193 = .ok (.astore_n 2, 1) := dk_77 (dk_at dksJ1_fixAfterDeletion_8 3 rfl rfl)
theorem dJ1_fixAfterDeletion_194 : decode cJ1_fixAfterDeletion 194 = .ok (.aload_n 2, 1) := dk_44 (dk_at dksJ1_fixAfterDeletion_8 4 rfl rfl)
theorem dJ1_fixAfterDeletion_195 : decode cJ1_fixAfterDeletion 195 = .ok (.invokestatic 303, 3) := dk_184 1 47 (dk_at dksJ1_fixAfterDeletion_8 5 rfl rfl)
theorem dJ1_fixAfterDeletion_198 : decode cJ1_fixAfterDeletion 198 = .ok (.ifCond .ne 32, 3) := dk_154 0 32 (dk_at dksJ1_fixAfterDeletion_8 8 rfl rfl)
theorem dJ1_fixAfterDeletion_201 : decode cJ1_fixAfterDeletion 201 = .ok (.aload_n 2, 1) := dk_44 (dk_at dksJ1_fixAfterDeletion_8 11 rfl rfl)
theorem dJ1_fixAfterDeletion_202 : decode cJ1_fixAfterDeletion 202 = .ok (.iconst 1, 1) := dk_4 (dk_at dksJ1_fixAfterDeletion_8 12 rfl rfl)
theorem dJ1_fixAfterDeletion_203 : decode cJ1_fixAfterDeletion 203 = .ok (.invokestatic 307, 3) := dk_184 1 51 (dk_at dksJ1_fixAfterDeletion_8 13 rfl rfl)
theorem dJ1_fixAfterDeletion_206 : decode cJ1_fixAfterDeletion 206 = .ok (.aload_n 1, 1) := dk_43 (dk_at dksJ1_fixAfterDeletion_8 16 rfl rfl)
theorem dJ1_fixAfterDeletion_207 : decode cJ1_fixAfterDeletion 207 = .ok (.invokestatic 294, 3) := dk_184 1 38 (dk_at dksJ1_fixAfterDeletion_8 17 rfl rfl)
theorem dJ1_fixAfterDeletion_210 : decode cJ1_fixAfterDeletion 210 = .ok (.iconst 0, 1) := dk_3 (dk_at dksJ1_fixAfterDeletion_8 20 rfl rfl)
theorem dJ1_fixAfterDeletion_211 : decode cJ1_fixAfterDeletion 211 = .ok (.invokestatic 307, 3) := dk_184 1 51 (dk_at dksJ1_fixAfterDeletion_8 21 rfl rfl)
theorem dJ1_fixAfterDeletion_214 : decode cJ1_fixAfterDeletion 214 = .ok (.aload_n 0, 1) := dk_42 (dk_at dksJ1_fixAfterDeletion_9 0 rfl rfl)
theorem dJ1_fixAfterDeletion_215 : decode cJ1_fixAfterDeletion 215 = .ok (.aload_n 1, 1) := dk_43 (dk_at dksJ1_fixAfterDeletion_9 1 rfl rfl)
theorem dJ1_fixAfterDeletion_216 : decode cJ1_fixAfterDeletion 216 = .ok (.invokestatic 294, 3) := dk_184 1 38 (dk_at dksJ1_fixAfterDeletion_9 2 rfl rfl)
theorem dJ1_fixAfterDeletion_219 : decode cJ1_fixAfterDeletion 219 = .ok (.invokevirtual 314, 3) := dk_182 1 58 (dk_at dksJ1_fixAfterDeletion_9 5 rfl rfl)
theorem dJ1_fixAfterDeletion_222 : decode cJ1_fixAfterDeletion 222 = .ok (.aload_n 1, 1) := dk_43 (dk_at dksJ1_fixAfterDeletion_9 8 rfl rfl)
theorem dJ1_fixAfterDeletion_223 : decode cJ1_fixAfterDeletion 223 = .ok (.invokestatic 294, 3) := dk_184 1 38 (dk_at dksJ1_fixAfterDeletion_9 9 rfl rfl)
theorem dJ1_fixAfterDeletion_226 : decode cJ1_fixAfterDeletion 226 = .ok (.invokestatic 297, 3) := dk_184 1 41 (dk_at dksJ1_fixAfterDeletion_9 12 rfl rfl)
theorem dJ1_fixAfterDeletion_229 : decode cJ1_fixAfterDeletion 229 = .ok (.astore_n 2, 1) := dk_77 (dk_at dksJ1_fixAfterDeletion_9 15 rfl rfl)
theorem dJ1_fixAfterDeletion_230 : decode cJ1_fixAfterDeletion 230 = .ok (.aload_n 2, 1) := dk_44 (dk_at dksJ1_fixAfterDeletion_9 16 rfl rfl)
theorem dJ1_fixAfterDeletion_231 : decode cJ1_fixAfterDeletion 231 = .ok (.invokestatic 300, 3) := dk_184 1 44 (dk_at dksJ1_fixAfterDeletion_9 17 rfl rfl)
theorem dJ1_fixAfterDeletion_234 : decode cJ1_fixAfterDeletion 234 = .ok (.invokestatic 303, 3) := dk_184 1 47 (dk_at dksJ1_fixAfterDeletion_9 20 rfl rfl)
theorem dJ1_fixAfterDeletion_237 : decode cJ1_fixAfterDeletion 237 = .ok (.iconst 1, 1) := dk_4 (dk_at dksJ1_fixAfterDeletion_9 23 rfl rfl)
theorem dJ1_fixAfterDeletion_238 : decode cJ1_fixAfterDeletion 238 = .ok (.if_icmp .ne 27, 3) := dk_160 0 27 (dk_at dksJ1_fixAfterDeletion_10 0 rfl rfl)
theorem dJ1_fixAfterDeletion_241 : decode cJ1_fixAfterDeletion 241 = .ok (.aload_n 2, 1) := dk_44 (dk_at dksJ1_fixAfterDeletion_10 3 rfl rfl)
theorem dJ1_fixAfterDeletion_242 : decode cJ1_fixAfterDeletion 242 = .ok (.invokestatic 297, 3) := dk_184 1 41 (dk_at dksJ1_fixAfterDeletion_10 4 rfl rfl)
theorem dJ1_fixAfterDeletion_245 : decode cJ1_fixAfterDeletion 245 = .ok (.invokestatic 303, 3) := dk_184 1 47 (dk_at dksJ1_fixAfterDeletion_10 7 rfl rfl)
theorem dJ1_fixAfterDeletion_248 : decode cJ1_fixAfterDeletion 248 = .ok (.iconst 1, 1) := dk_4 (dk_at dksJ1_fixAfterDeletion_10 10 rfl rfl)
theorem dJ1_fixAfterDeletion_249 : decode cJ1_fixAfterDeletion 249 = .ok (.if_icmp .ne 16, 3) := dk_160 0 16 (dk_at dksJ1_fixAfterDeletion_10 11 rfl rfl)
theorem dJ1_fixAfterDeletion_252 : decode cJ1_fixAfterDeletion 252 = .ok (.aload_n 2, 1) := dk_44 (dk_at dksJ1_fixAfterDeletion_10 14 rfl rfl)
theorem dJ1_fixAfterDeletion_253 : decode cJ1_fixAfterDeletion 253 = .ok (.iconst 0, 1) := dk_3 (dk_at dksJ1_fixAfterDeletion_10 15 rfl rfl)
theorem dJ1_fixAfterDeletion_254 : decode cJ1_fixAfterDeletion 254 = .ok (.invokestatic 307, 3) := dk_184 1 51 (dk_at dksJ1_fixAfterDeletion_10 16 rfl rfl)
theorem dJ1_fixAfterDeletion_257 : decode cJ1_fixAfterDeletion 257 = .ok (.aload_n 1, 1) := dk_43 (dk_at dksJ1_fixAfterDeletion_10 19 rfl rfl)
theorem dJ1_fixAfterDeletion_258 : decode cJ1_fixAfterDeletion 258 = .ok (.invokestatic 294, 3) := dk_184 1 38 (dk_at dksJ1_fixAfterDeletion_10 20 rfl rfl)
theorem dJ1_fixAfterDeletion_261 : decode cJ1_fixAfterDeletion 261 = .ok (.astore_n 1, 1) := dk_76 (dk_at dksJ1_fixAfterDeletion_10 23 rfl rfl)
theorem dJ1_fixAfterDeletion_262 : decode cJ1_fixAfterDeletion 262 = .ok (.goto 80, 3) := dk_167 0 80 (dk_at dksJ1_fixAfterDeletion_11 0 rfl rfl)
theorem dJ1_fixAfterDeletion_265 : decode cJ1_fixAfterDeletion 265 = .ok (.aload_n 2, 1) := dk_44 (dk_at dksJ1_fixAfterDeletion_11 3 rfl rfl)
theorem dJ1_fixAfterDeletion_266 : decode cJ1_fixAfterDeletion 266 = .ok (.invokestatic 297, 3) := dk_184 1 41 (dk_at dksJ1_fixAfterDeletion_11 4 rfl rfl)
theorem dJ1_fixAfterDeletion_269 : decode cJ1_fixAfterDeletion 269 = .ok (.invokestatic 303, 3) := dk_184 1 47 (dk_at dksJ1_fixAfterDeletion_11 7 rfl rfl)
theorem dJ1_fixAfterDeletion_272 : decode cJ1_fixAfterDeletion 272 = .ok (.iconst 1, 1) := dk_4 (dk_at dksJ1_fixAfterDeletion_11 10 rfl rfl)
theorem dJ1_fixAfterDeletion_273 : decode cJ1_fixAfterDeletion 273 = .ok (.if_icmp .ne 29, 3) := dk_160 0 29 (dk_at dksJ1_fixAfterDeletion_11 11 rfl rfl)
theorem dJ1_fixAfterDeletion_276 : decode cJ1_fixAfterDeletion 276 = .ok (.aload_n 2, 1) := dk_44 (dk_at dksJ1_fixAfterDeletion_11 14 rfl rfl)
theorem dJ1_fixAfterDeletion_277 : decode cJ1_fixAfterDeletion 277 = .ok (.invokestatic 300, 3) := dk_184 1 44 (dk_at dksJ1_fixAfterDeletion_11 15 rfl rfl)
theorem dJ1_fixAfterDeletion_280 : decode cJ1_fixAfterDeletion 280 = .ok (.iconst 1, 1) := dk_4 (dk_at dksJ1_fixAfterDeletion_11 18 rfl rfl)
theorem dJ1_fixAfterDeletion_281 : decode cJ1_fixAfterDeletion 281 = .ok (.invokestatic 307, 3) := dk_184 1 51 (dk_at dksJ1_fixAfterDeletion_11 19 rfl rfl)
theorem dJ1_fixAfterDeletion_284 : decode cJ1_fixAfterDeletion 284 = .ok (.aload_n 2, 1) := dk_44 (dk_at dksJ1_fixAfterDeletion_11 22 rfl rfl)
theorem dJ1_fixAfterDeletion_285 : decode cJ1_fixAfterDeletion 285 = .ok (.iconst 0, 1) := dk_3 (dk_at dksJ1_fixAfterDeletion_11 23 rfl rfl)
theorem dJ1_fixAfterDeletion_286 : decode cJ1_fixAfterDeletion 286 = .ok (.invokestatic 307, 3) := dk_184 1 51 (dk_at dksJ1_fixAfterDeletion_12 0 rfl rfl)
theorem dJ1_fixAfterDeletion_289 : decode cJ1_fixAfterDeletion 289 = .ok (.aload_n 0, 1) := dk_42 (dk_at dksJ1_fixAfterDeletion_12 3 rfl rfl)
theorem dJ1_fixAfterDeletion_290 : decode cJ1_fixAfterDeletion 290 = .ok (.aload_n 2, 1) := dk_44 (dk_at dksJ1_fixAfterDeletion_12 4 rfl rfl)
theorem dJ1_fixAfterDeletion_291 : decode cJ1_fixAfterDeletion 291 = .ok (.invokevirtual 311, 3) := dk_182 1 55 (dk_at dksJ1_fixAfterDeletion_12 5 rfl rfl)
theorem dJ1_fixAfterDeletion_294 : decode cJ1_fixAfterDeletion 294 = .ok (.aload_n 1, 1) := dk_43 (dk_at dksJ1_fixAfterDeletion_12 8 rfl rfl)
theorem dJ1_fixAfterDeletion_295 : decode cJ1_fixAfterDeletion 295 = .ok (.invokestatic 294, 3) := dk_184 1 38 (dk_at dksJ1_fixAfterDeletion_12 9 rfl rfl)
theorem dJ1_fixAfterDeletion_298 : decode cJ1_fixAfterDeletion 298 = .ok (.invokestatic 297, 3) := dk_184 1 41 (dk_at dksJ1_fixAfterDeletion_12 12 rfl rfl)
theorem dJ1_fixAfterDeletion_301 : decode cJ1_fixAfterDeletion 301 = .ok (.astore_n 2, 1) := dk_77 (dk_at dksJ1_fixAfterDeletion_12 15 rfl rfl)
theorem dJ1_fixAfterDeletion_302 : decode cJ1_fixAfterDeletion 302 = .ok (.aload_n 2, 1) := dk_44 (dk_at dksJ1_fixAfterDeletion_12 16 rfl rfl)
theorem dJ1_fixAfterDeletion_303 : decode cJ1_fixAfterDeletion 303 = .ok (.aload_n 1, 1) := dk_43 (dk_at dksJ1_fixAfterDeletion_12 17 rfl rfl)
theorem dJ1_fixAfterDeletion_304 : decode cJ1_fixAfterDeletion 304 = .ok (.invokestatic 294, 3) := dk_184 1 38 (dk_at dksJ1_fixAfterDeletion_12 18 rfl rfl)
theorem dJ1_fixAfterDeletion_307 : decode cJ1_fixAfterDeletion 307 = .ok (.invokestatic 303, 3) := dk_184 1 47 (dk_at dksJ1_fixAfterDeletion_12 21 rfl rfl)
theorem dJ1_fixAfterDeletion_310 : decode cJ1_fixAfterDeletion 310 = .ok (.invokestatic 307, 3) := dk_184 1 51 (dk_at dksJ1_fixAfterDeletion_13 0 rfl rfl)
theorem dJ1_fixAfterDeletion_313 : decode cJ1_fixAfterDeletion 313 = .ok (.aload_n 1, 1) := dk_43 (dk_at dksJ1_fixAfterDeletion_13 3 rfl rfl)
theorem dJ1_fixAfterDeletion_314 : decode cJ1_fixAfterDeletion 314 = .ok (.invokestatic 294, 3) := dk_184 1 38 (dk_at dksJ1_fixAfterDeletion_13 4 rfl rfl)
theorem dJ1_fixAfterDeletion_317 : decode cJ1_fixAfterDeletion 317 = .ok (.iconst 1, 1) := dk_4 (dk_at dksJ1_fixAfterDeletion_13 7 rfl rfl)
theorem dJ1_fixAfterDeletion_318 : decode cJ1_fixAfterDeletion 318 = .ok (.invokestatic 307, 3) := dk_184 1 51 (dk_at dksJ1_fixAfterDeletion_13 8 rfl rfl)
theorem dJ1_fixAfterDeletion_321 : decode cJ1_fixAfterDeletion 321 = .ok (.aload_n 2, 1) := dk_44 (dk_at dksJ1_fixAfterDeletion_13 11 rfl rfl)
theorem dJ1_fixAfterDeletion_322 : decode cJ1_fixAfterDeletion 322 = .ok (.invokestatic 297, 3) := dk_184 1 41 (dk_at dksJ1_fixAfterDeletion_13 12 rfl rfl)
theorem dJ1_fixAfterDeletion_325 : decode cJ1_fixAfterDeletion 325 = .ok (.iconst 1, 1) := dk_4 (dk_at dksJ1_fixAfterDeletion_13 15 rfl rfl)
theorem dJ1_fixAfterDeletion_326 : decode cJ1_fixAfterDeletion 326 = .ok (.invokestatic 307, 3) := dk_184 1 51 (dk_at dksJ1_fixAfterDeletion_13 16 rfl rfl)
theorem dJ1_fixAfterDeletion_329 : decode cJ1_fixAfterDeletion 329 = .ok (.aload_n 0, 1) := dk_42 (dk_at dksJ1_fixAfterDeletion_13 19 rfl rfl)
theorem dJ1_fixAfterDeletion_330 : decode cJ1_fixAfterDeletion 330 = .ok (.aload_n 1, 1) := dk_43 (dk_at dksJ1_fixAfterDeletion_13 20 rfl rfl)
theorem dJ1_fixAfterDeletion_331 : decode cJ1_fixAfterDeletion 331 = .ok (.invokestatic 294, 3) := dk_184 1 38 (dk_at dksJ1_fixAfterDeletion_13 21 rfl rfl)
theorem dJ1_fixAfterDeletion_334 : decode cJ1_fixAfterDeletion 334 = .ok (.invokevirtual 314, 3) := dk_182 1 58 (dk_at dksJ1_fixAfterDeletion_14 0 rfl rfl)
theorem dJ1_fixAfterDeletion_337 : decode cJ1_fixAfterDeletion 337 = .ok (.aload_n 0, 1) := dk_42 (dk_at dksJ1_fixAfterDeletion_14 3 rfl rfl)
theorem dJ1_fixAfterDeletion_338 : decode cJ1_fixAfterDeletion 338 = .ok (.getfield 101, 3) := dk_180 0 101 (dk_at dksJ1_fixAfterDeletion_14 4 rfl rfl)
theorem dJ1_fixAfterDeletion_341 : decode cJ1_fixAfterDeletion 341 = .ok (.astore_n 1, 1) := dk_76 (dk_at dksJ1_fixAfterDeletion_14 7 rfl rfl)
theorem dJ1_fixAfterDeletion_342 : decode cJ1_fixAfterDeletion 342 = .ok (.goto (-342), 3) := dk_167 254 170 (dk_at dksJ1_fixAfterDeletion_14 8 rfl rfl)
theorem dJ1_fixAfterDeletion_345 : decode cJ1_fixAfterDeletion 345 = .ok (.aload_n 1, 1) := dk_43 (dk_at dksJ1_fixAfterDeletion_14 11 rfl rfl)
theorem dJ1_fixAfterDeletion_346 : decode cJ1_fixAfterDeletion 346 = .ok (.iconst 1, 1) := dk_4 (dk_at dksJ1_fixAfterDeletion_14 12 rfl rfl)
theorem dJ1_fixAfterDeletion_347 : decode cJ1_fixAfterDeletion 347 = .ok (.invokestatic 307, 3) := dk_184 1 51 (dk_at dksJ1_fixAfterDeletion_14 13 rfl rfl)
theorem dJ1_fixAfterDeletion_350 : decode cJ1_fixAfterDeletion 350 = .ok (.return_, 1) := dk_177 (dk_at dksJ1_fixAfterDeletion_14 16 rfl rfl)
abbrev kJ1_fixAfterDeletion : KX := (cJ1_fixAfterDeletion, "java/util/TreeMap", "fixAfterDeletion", 3, none, [], 1)
abbrev cJ1_get : ByteArray := prog_75_method_8_code
def yJ1_get : MethodName := ⟨RJ1, "get", "(Ljava/lang/Object;)Ljava/lang/Object;"⟩
def dkwJ1_get_0 : List UInt8 := [42, 43, 182, 0, 50, 77, 44, 199, 0, 7, 1, 167, 0, 7, 44, 180, 0, 58, 176]
abbrev dktJ1_get_0 : List UInt8 := dkwJ1_get_0 ++ []
theorem dksJ1_get_0 : cJ1_get.data.toList.drop 0 = dktJ1_get_0 := by decide +kernel
theorem dJ1_get_0 : decode cJ1_get 0 = .ok (.aload_n 0, 1) := dk_42 (dk_at dksJ1_get_0 0 rfl rfl)
theorem dJ1_get_1 : decode cJ1_get 1 = .ok (.aload_n 1, 1) := dk_43 (dk_at dksJ1_get_0 1 rfl rfl)
theorem dJ1_get_2 : decode cJ1_get 2 = .ok (.invokevirtual 50, 3) := dk_182 0 50 (dk_at dksJ1_get_0 2 rfl rfl)
theorem dJ1_get_5 : decode cJ1_get 5 = .ok (.astore_n 2, 1) := dk_77 (dk_at dksJ1_get_0 5 rfl rfl)
theorem dJ1_get_6 : decode cJ1_get 6 = .ok (.aload_n 2, 1) := dk_44 (dk_at dksJ1_get_0 6 rfl rfl)
theorem dJ1_get_7 : decode cJ1_get 7 = .ok (.ifnonnull 7, 3) := dk_199 0 7 (dk_at dksJ1_get_0 7 rfl rfl)
theorem dJ1_get_10 : decode cJ1_get 10 = .ok (.aconst_null, 1) := dk_1 (dk_at dksJ1_get_0 10 rfl rfl)
theorem dJ1_get_11 : decode cJ1_get 11 = .ok (.goto 7, 3) := dk_167 0 7 (dk_at dksJ1_get_0 11 rfl rfl)
theorem dJ1_get_14 : decode cJ1_get 14 = .ok (.aload_n 2, 1) := dk_44 (dk_at dksJ1_get_0 14 rfl rfl)
theorem dJ1_get_15 : decode cJ1_get 15 = .ok (.getfield 58, 3) := dk_180 0 58 (dk_at dksJ1_get_0 15 rfl rfl)
theorem dJ1_get_18 : decode cJ1_get 18 = .ok (.areturn, 1) := dk_176 (dk_at dksJ1_get_0 18 rfl rfl)
abbrev kJ1_get : KX := (cJ1_get, "java/util/TreeMap", "get", 3, some (.object "java/lang/Object"), [], 10)
abbrev cJ1_getEntry : ByteArray := prog_75_method_15_code
def yJ1_getEntry : MethodName := ⟨RJ1, "getEntry", "(Ljava/lang/Object;)Ljava/util/TreeMap$Entry;"⟩
def dkwJ1_getEntry_3 : List UInt8 := [45, 176, 167, 255, 212, 1, 176]
abbrev dktJ1_getEntry_3 : List UInt8 := dkwJ1_getEntry_3 ++ []
def dkwJ1_getEntry_2 : List UInt8 := [156, 0, 11, 45, 180, 0, 111, 78, 167, 0, 18, 21, 4, 158, 0, 11, 45, 180, 0, 114, 78, 167, 0, 5]
abbrev dktJ1_getEntry_2 : List UInt8 := dkwJ1_getEntry_2 ++ dktJ1_getEntry_3
def dkwJ1_getEntry_1 : List UInt8 := [180, 0, 101, 78, 45, 198, 0, 46, 44, 45, 180, 0, 105, 185, 0, 107, 2, 0, 54, 4, 21, 4]
abbrev dktJ1_getEntry_1 : List UInt8 := dkwJ1_getEntry_1 ++ dktJ1_getEntry_2
def dkwJ1_getEntry_0 : List UInt8 := [42, 180, 0, 16, 198, 0, 9, 42, 43, 182, 0, 92, 176, 43, 184, 0, 95, 87, 43, 192, 0, 99, 77, 42]
abbrev dktJ1_getEntry_0 : List UInt8 := dkwJ1_getEntry_0 ++ dktJ1_getEntry_1
theorem dksJ1_getEntry_0 : cJ1_getEntry.data.toList.drop 0 = dktJ1_getEntry_0 := by decide +kernel
theorem dksJ1_getEntry_1 : cJ1_getEntry.data.toList.drop 24 = dktJ1_getEntry_1 := dk_seg dksJ1_getEntry_0 24 rfl rfl
theorem dksJ1_getEntry_2 : cJ1_getEntry.data.toList.drop 46 = dktJ1_getEntry_2 := dk_seg dksJ1_getEntry_1 22 rfl rfl
theorem dksJ1_getEntry_3 : cJ1_getEntry.data.toList.drop 70 = dktJ1_getEntry_3 := dk_seg dksJ1_getEntry_2 24 rfl rfl
theorem dJ1_getEntry_0 : decode cJ1_getEntry 0 = .ok (.aload_n 0, 1) := dk_42 (dk_at dksJ1_getEntry_0 0 rfl rfl)
theorem dJ1_getEntry_1 : decode cJ1_getEntry 1 = .ok (.getfield 16, 3) := dk_180 0 16 (dk_at dksJ1_getEntry_0 1 rfl rfl)
theorem dJ1_getEntry_4 : decode cJ1_getEntry 4 = .ok (.ifnull 9, 3) := dk_198 0 9 (dk_at dksJ1_getEntry_0 4 rfl rfl)
theorem dJ1_getEntry_7 : decode cJ1_getEntry 7 = .ok (.aload_n 0, 1) := dk_42 (dk_at dksJ1_getEntry_0 7 rfl rfl)
theorem dJ1_getEntry_8 : decode cJ1_getEntry 8 = .ok (.aload_n 1, 1) := dk_43 (dk_at dksJ1_getEntry_0 8 rfl rfl)
theorem dJ1_getEntry_9 : decode cJ1_getEntry 9 = .ok (.invokevirtual 92, 3) := dk_182 0 92 (dk_at dksJ1_getEntry_0 9 rfl rfl)
theorem dJ1_getEntry_12 : decode cJ1_getEntry 12 = .ok (.areturn, 1) := dk_176 (dk_at dksJ1_getEntry_0 12 rfl rfl)
theorem dJ1_getEntry_13 : decode cJ1_getEntry 13 = .ok (.aload_n 1, 1) := dk_43 (dk_at dksJ1_getEntry_0 13 rfl rfl)
theorem dJ1_getEntry_14 : decode cJ1_getEntry 14 = .ok (.invokestatic 95, 3) := dk_184 0 95 (dk_at dksJ1_getEntry_0 14 rfl rfl)
theorem dJ1_getEntry_17 : decode cJ1_getEntry 17 = .ok (.pop, 1) := dk_87 (dk_at dksJ1_getEntry_0 17 rfl rfl)
theorem dJ1_getEntry_18 : decode cJ1_getEntry 18 = .ok (.aload_n 1, 1) := dk_43 (dk_at dksJ1_getEntry_0 18 rfl rfl)
theorem dJ1_getEntry_19 : decode cJ1_getEntry 19 = .ok (.checkcast 99, 3) := dk_192 0 99 (dk_at dksJ1_getEntry_0 19 rfl rfl)
theorem dJ1_getEntry_22 : decode cJ1_getEntry 22 = .ok (.astore_n 2, 1) := dk_77 (dk_at dksJ1_getEntry_0 22 rfl rfl)
theorem dJ1_getEntry_23 : decode cJ1_getEntry 23 = .ok (.aload_n 0, 1) := dk_42 (dk_at dksJ1_getEntry_0 23 rfl rfl)
theorem dJ1_getEntry_24 : decode cJ1_getEntry 24 = .ok (.getfield 101, 3) := dk_180 0 101 (dk_at dksJ1_getEntry_1 0 rfl rfl)
theorem dJ1_getEntry_27 : decode cJ1_getEntry 27 = .ok (.astore_n 3, 1) := dk_78 (dk_at dksJ1_getEntry_1 3 rfl rfl)
theorem dJ1_getEntry_28 : decode cJ1_getEntry 28 = .ok (.aload_n 3, 1) := dk_45 (dk_at dksJ1_getEntry_1 4 rfl rfl)
theorem dJ1_getEntry_29 : decode cJ1_getEntry 29 = .ok (.ifnull 46, 3) := dk_198 0 46 (dk_at dksJ1_getEntry_1 5 rfl rfl)
theorem dJ1_getEntry_32 : decode cJ1_getEntry 32 = .ok (.aload_n 2, 1) := dk_44 (dk_at dksJ1_getEntry_1 8 rfl rfl)
theorem dJ1_getEntry_33 : decode cJ1_getEntry 33 = .ok (.aload_n 3, 1) := dk_45 (dk_at dksJ1_getEntry_1 9 rfl rfl)
theorem dJ1_getEntry_34 : decode cJ1_getEntry 34 = .ok (.getfield 105, 3) := dk_180 0 105 (dk_at dksJ1_getEntry_1 10 rfl rfl)
theorem dJ1_getEntry_37 : decode cJ1_getEntry 37 = .ok (.invokeinterface 107 2, 5) := by decide +kernel
theorem dJ1_getEntry_42 : decode cJ1_getEntry 42 = .ok (.istore 4, 2) := dk_54 4 (dk_at dksJ1_getEntry_1 18 rfl rfl)
theorem dJ1_getEntry_44 : decode cJ1_getEntry 44 = .ok (.iload 4, 2) := dk_21 4 (dk_at dksJ1_getEntry_1 20 rfl rfl)
theorem dJ1_getEntry_46 : decode cJ1_getEntry 46 = .ok (.ifCond .ge 11, 3) := dk_156 0 11 (dk_at dksJ1_getEntry_2 0 rfl rfl)
theorem dJ1_getEntry_49 : decode cJ1_getEntry 49 = .ok (.aload_n 3, 1) := dk_45 (dk_at dksJ1_getEntry_2 3 rfl rfl)
theorem dJ1_getEntry_50 : decode cJ1_getEntry 50 = .ok (.getfield 111, 3) := dk_180 0 111 (dk_at dksJ1_getEntry_2 4 rfl rfl)
theorem dJ1_getEntry_53 : decode cJ1_getEntry 53 = .ok (.astore_n 3, 1) := dk_78 (dk_at dksJ1_getEntry_2 7 rfl rfl)
theorem dJ1_getEntry_54 : decode cJ1_getEntry 54 = .ok (.goto 18, 3) := dk_167 0 18 (dk_at dksJ1_getEntry_2 8 rfl rfl)
theorem dJ1_getEntry_57 : decode cJ1_getEntry 57 = .ok (.iload 4, 2) := dk_21 4 (dk_at dksJ1_getEntry_2 11 rfl rfl)
theorem dJ1_getEntry_59 : decode cJ1_getEntry 59 = .ok (.ifCond .le 11, 3) := dk_158 0 11 (dk_at dksJ1_getEntry_2 13 rfl rfl)
theorem dJ1_getEntry_62 : decode cJ1_getEntry 62 = .ok (.aload_n 3, 1) := dk_45 (dk_at dksJ1_getEntry_2 16 rfl rfl)
theorem dJ1_getEntry_63 : decode cJ1_getEntry 63 = .ok (.getfield 114, 3) := dk_180 0 114 (dk_at dksJ1_getEntry_2 17 rfl rfl)
theorem dJ1_getEntry_66 : decode cJ1_getEntry 66 = .ok (.astore_n 3, 1) := dk_78 (dk_at dksJ1_getEntry_2 20 rfl rfl)
theorem dJ1_getEntry_67 : decode cJ1_getEntry 67 = .ok (.goto 5, 3) := dk_167 0 5 (dk_at dksJ1_getEntry_2 21 rfl rfl)
theorem dJ1_getEntry_70 : decode cJ1_getEntry 70 = .ok (.aload_n 3, 1) := dk_45 (dk_at dksJ1_getEntry_3 0 rfl rfl)
theorem dJ1_getEntry_71 : decode cJ1_getEntry 71 = .ok (.areturn, 1) := dk_176 (dk_at dksJ1_getEntry_3 1 rfl rfl)
theorem dJ1_getEntry_72 : decode cJ1_getEntry 72 = .ok (.goto (-44), 3) := dk_167 255 212 (dk_at dksJ1_getEntry_3 2 rfl rfl)
theorem dJ1_getEntry_75 : decode cJ1_getEntry 75 = .ok (.aconst_null, 1) := dk_1 (dk_at dksJ1_getEntry_3 5 rfl rfl)
theorem dJ1_getEntry_76 : decode cJ1_getEntry 76 = .ok (.areturn, 1) := dk_176 (dk_at dksJ1_getEntry_3 6 rfl rfl)
abbrev kJ1_getEntry : KX := (cJ1_getEntry, "java/util/TreeMap", "getEntry", 5, some (.object "java/util/TreeMap$Entry"), [], 9)
abbrev cJ1_getEntryUsingComparator : ByteArray := prog_75_method_16_code
def yJ1_getEntryUsingComparator : MethodName := ⟨RJ1, "getEntryUsingComparator", "(Ljava/lang/Object;)Ljava/util/TreeMap$Entry;"⟩
def dkwJ1_getEntryUsingComparator_3 : List UInt8 := [1, 176]
abbrev dktJ1_getEntryUsingComparator_3 : List UInt8 := dkwJ1_getEntryUsingComparator_3 ++ []
def dkwJ1_getEntryUsingComparator_2 : List UInt8 := [167, 0, 21, 21, 5, 158, 0, 13, 25, 4, 180, 0, 114, 58, 4, 167, 0, 6, 25, 4, 176, 167, 255, 204]
abbrev dktJ1_getEntryUsingComparator_2 : List UInt8 := dkwJ1_getEntryUsingComparator_2 ++ dktJ1_getEntryUsingComparator_3
def dkwJ1_getEntryUsingComparator_1 : List UInt8 := [25, 4, 180, 0, 105, 185, 0, 117, 3, 0, 54, 5, 21, 5, 156, 0, 13, 25, 4, 180, 0, 111, 58, 4]
abbrev dktJ1_getEntryUsingComparator_1 : List UInt8 := dkwJ1_getEntryUsingComparator_1 ++ dktJ1_getEntryUsingComparator_2
def dkwJ1_getEntryUsingComparator_0 : List UInt8 := [43, 77, 42, 180, 0, 16, 78, 45, 198, 0, 64, 42, 180, 0, 101, 58, 4, 25, 4, 198, 0, 53, 45, 44]
abbrev dktJ1_getEntryUsingComparator_0 : List UInt8 := dkwJ1_getEntryUsingComparator_0 ++ dktJ1_getEntryUsingComparator_1
theorem dksJ1_getEntryUsingComparator_0 : cJ1_getEntryUsingComparator.data.toList.drop 0 = dktJ1_getEntryUsingComparator_0 := by decide +kernel
theorem dksJ1_getEntryUsingComparator_1 : cJ1_getEntryUsingComparator.data.toList.drop 24 = dktJ1_getEntryUsingComparator_1 := dk_seg dksJ1_getEntryUsingComparator_0 24 rfl rfl
theorem dksJ1_getEntryUsingComparator_2 : cJ1_getEntryUsingComparator.data.toList.drop 48 = dktJ1_getEntryUsingComparator_2 := dk_seg dksJ1_getEntryUsingComparator_1 24 rfl rfl
theorem dksJ1_getEntryUsingComparator_3 : cJ1_getEntryUsingComparator.data.toList.drop 72 = dktJ1_getEntryUsingComparator_3 := dk_seg dksJ1_getEntryUsingComparator_2 24 rfl rfl
theorem dJ1_getEntryUsingComparator_0 : decode cJ1_getEntryUsingComparator 0 = .ok (.aload_n 1, 1) := dk_43 (dk_at dksJ1_getEntryUsingComparator_0 0 rfl rfl)
theorem dJ1_getEntryUsingComparator_1 : decode cJ1_getEntryUsingComparator 1 = .ok (.astore_n 2, 1) := dk_77 (dk_at dksJ1_getEntryUsingComparator_0 1 rfl rfl)
theorem dJ1_getEntryUsingComparator_2 : decode cJ1_getEntryUsingComparator 2 = .ok (.aload_n 0, 1) := dk_42 (dk_at dksJ1_getEntryUsingComparator_0 2 rfl rfl)
theorem dJ1_getEntryUsingComparator_3 : decode cJ1_getEntryUsingComparator 3 = .ok (.getfield 16, 3) := dk_180 0 16 (dk_at dksJ1_getEntryUsingComparator_0 3 rfl rfl)
theorem dJ1_getEntryUsingComparator_6 : decode cJ1_getEntryUsingComparator 6 = .ok (.astore_n 3, 1) := dk_78 (dk_at dksJ1_getEntryUsingComparator_0 6 rfl rfl)
theorem dJ1_getEntryUsingComparator_7 : decode cJ1_getEntryUsingComparator 7 = .ok (.aload_n 3, 1) := dk_45 (dk_at dksJ1_getEntryUsingComparator_0 7 rfl rfl)
theorem dJ1_getEntryUsingComparator_8 : decode cJ1_getEntryUsingComparator 8 = .ok (.ifnull 64, 3) := dk_198 0 64 (dk_at dksJ1_getEntryUsingComparator_0 8 rfl rfl)
theorem dJ1_getEntryUsingComparator_11 : decode cJ1_getEntryUsingComparator 11 = .ok (.aload_n 0, 1) := dk_42 (dk_at dksJ1_getEntryUsingComparator_0 11 rfl rfl)
theorem dJ1_getEntryUsingComparator_12 : decode cJ1_getEntryUsingComparator 12 = .ok (.getfield 101, 3) := dk_180 0 101 (dk_at dksJ1_getEntryUsingComparator_0 12 rfl rfl)
theorem dJ1_getEntryUsingComparator_15 : decode cJ1_getEntryUsingComparator 15 = .ok (.astore 4, 2) := dk_58 4 (dk_at dksJ1_getEntryUsingComparator_0 15 rfl rfl)
theorem dJ1_getEntryUsingComparator_17 : decode cJ1_getEntryUsingComparator 17 = .ok (.aload 4, 2) := dk_25 4 (dk_at dksJ1_getEntryUsingComparator_0 17 rfl rfl)
theorem dJ1_getEntryUsingComparator_19 : decode cJ1_getEntryUsingComparator 19 = .ok (.ifnull 53, 3) := dk_198 0 53 (dk_at dksJ1_getEntryUsingComparator_0 19 rfl rfl)
theorem dJ1_getEntryUsingComparator_22 : decode cJ1_getEntryUsingComparator 22 = .ok (.aload_n 3, 1) := dk_45 (dk_at dksJ1_getEntryUsingComparator_0 22 rfl rfl)
theorem dJ1_getEntryUsingComparator_23 : decode cJ1_getEntryUsingComparator 23 = .ok (.aload_n 2, 1) := dk_44 (dk_at dksJ1_getEntryUsingComparator_0 23 rfl rfl)
theorem dJ1_getEntryUsingComparator_24 : decode cJ1_getEntryUsingComparator 24 = .ok (.aload 4, 2) := dk_25 4 (dk_at dksJ1_getEntryUsingComparator_1 0 rfl rfl)
theorem dJ1_getEntryUsingComparator_26 : decode cJ1_getEntryUsingComparator 26 = .ok (.getfield 105, 3) := dk_180 0 105 (dk_at dksJ1_getEntryUsingComparator_1 2 rfl rfl)
theorem dJ1_getEntryUsingComparator_29 : decode cJ1_getEntryUsingComparator 29 = .ok (.invokeinterface 117 3, 5) := by decide +kernel
theorem dJ1_getEntryUsingComparator_34 : decode cJ1_getEntryUsingComparator 34 = .ok (.istore 5, 2) := dk_54 5 (dk_at dksJ1_getEntryUsingComparator_1 10 rfl rfl)
theorem dJ1_getEntryUsingComparator_36 : decode cJ1_getEntryUsingComparator 36 = .ok (.iload 5, 2) := dk_21 5 (dk_at dksJ1_getEntryUsingComparator_1 12 rfl rfl)
theorem dJ1_getEntryUsingComparator_38 : decode cJ1_getEntryUsingComparator 38 = .ok (.ifCond .ge 13, 3) := dk_156 0 13 (dk_at dksJ1_getEntryUsingComparator_1 14 rfl rfl)
theorem dJ1_getEntryUsingComparator_41 : decode cJ1_getEntryUsingComparator 41 = .ok (.aload 4, 2) := dk_25 4 (dk_at dksJ1_getEntryUsingComparator_1 17 rfl rfl)
theorem dJ1_getEntryUsingComparator_43 : decode cJ1_getEntryUsingComparator 43 = .ok (.getfield 111, 3) := dk_180 0 111 (dk_at dksJ1_getEntryUsingComparator_1 19 rfl rfl)
theorem dJ1_getEntryUsingComparator_46 : decode cJ1_getEntryUsingComparator 46 = .ok (.astore 4, 2) := dk_58 4 (dk_at dksJ1_getEntryUsingComparator_1 22 rfl rfl)
theorem dJ1_getEntryUsingComparator_48 : decode cJ1_getEntryUsingComparator 48 = .ok (.goto 21, 3) := dk_167 0 21 (dk_at dksJ1_getEntryUsingComparator_2 0 rfl rfl)
theorem dJ1_getEntryUsingComparator_51 : decode cJ1_getEntryUsingComparator 51 = .ok (.iload 5, 2) := dk_21 5 (dk_at dksJ1_getEntryUsingComparator_2 3 rfl rfl)
theorem dJ1_getEntryUsingComparator_53 : decode cJ1_getEntryUsingComparator 53 = .ok (.ifCond .le 13, 3) := dk_158 0 13 (dk_at dksJ1_getEntryUsingComparator_2 5 rfl rfl)
theorem dJ1_getEntryUsingComparator_56 : decode cJ1_getEntryUsingComparator 56 = .ok (.aload 4, 2) := dk_25 4 (dk_at dksJ1_getEntryUsingComparator_2 8 rfl rfl)
theorem dJ1_getEntryUsingComparator_58 : decode cJ1_getEntryUsingComparator 58 = .ok (.getfield 114, 3) := dk_180 0 114 (dk_at dksJ1_getEntryUsingComparator_2 10 rfl rfl)
theorem dJ1_getEntryUsingComparator_61 : decode cJ1_getEntryUsingComparator 61 = .ok (.astore 4, 2) := dk_58 4 (dk_at dksJ1_getEntryUsingComparator_2 13 rfl rfl)
theorem dJ1_getEntryUsingComparator_63 : decode cJ1_getEntryUsingComparator 63 = .ok (.goto 6, 3) := dk_167 0 6 (dk_at dksJ1_getEntryUsingComparator_2 15 rfl rfl)
theorem dJ1_getEntryUsingComparator_66 : decode cJ1_getEntryUsingComparator 66 = .ok (.aload 4, 2) := dk_25 4 (dk_at dksJ1_getEntryUsingComparator_2 18 rfl rfl)
theorem dJ1_getEntryUsingComparator_68 : decode cJ1_getEntryUsingComparator 68 = .ok (.areturn, 1) := dk_176 (dk_at dksJ1_getEntryUsingComparator_2 20 rfl rfl)
theorem dJ1_getEntryUsingComparator_69 : decode cJ1_getEntryUsingComparator 69 = .ok (.goto (-52), 3) := dk_167 255 204 (dk_at dksJ1_getEntryUsingComparator_2 21 rfl rfl)
theorem dJ1_getEntryUsingComparator_72 : decode cJ1_getEntryUsingComparator 72 = .ok (.aconst_null, 1) := dk_1 (dk_at dksJ1_getEntryUsingComparator_3 0 rfl rfl)
theorem dJ1_getEntryUsingComparator_73 : decode cJ1_getEntryUsingComparator 73 = .ok (.areturn, 1) := dk_176 (dk_at dksJ1_getEntryUsingComparator_3 1 rfl rfl)
abbrev kJ1_getEntryUsingComparator : KX := (cJ1_getEntryUsingComparator, "java/util/TreeMap", "getEntryUsingComparator", 6, some (.object "java/util/TreeMap$Entry"), [], 2)
abbrev cJ1_size : ByteArray := prog_75_method_5_code
def yJ1_size : MethodName := ⟨RJ1, "size", "()I"⟩
theorem dJ1_size_0 : decode cJ1_size 0 = .ok (.aload_n 0, 1) := by decide +kernel
theorem dJ1_size_1 : decode cJ1_size 1 = .ok (.getfield 7, 3) := by decide +kernel
theorem dJ1_size_4 : decode cJ1_size 4 = .ok (.ireturn, 1) := by decide +kernel
abbrev kJ1_size : KX := (cJ1_size, "java/util/TreeMap", "size", 1, some .int, [], 0)
abbrev cJ1_keySet : ByteArray := prog_75_method_49_code
def yJ1_keySet : MethodName := ⟨RJ1, "keySet", "()Ljava/util/Set;"⟩
theorem dJ1_keySet_0 : decode cJ1_keySet 0 = .ok (.aload_n 0, 1) := by decide +kernel
theorem dJ1_keySet_1 : decode cJ1_keySet 1 = .ok (.invokevirtual 219, 3) := by decide +kernel
theorem dJ1_keySet_4 : decode cJ1_keySet 4 = .ok (.areturn, 1) := by decide +kernel
abbrev kJ1_keySet : KX := (cJ1_keySet, "java/util/TreeMap", "keySet", 1, some (.object "java/util/Set"), [], 5)
abbrev cJ1_floorKey : ByteArray := prog_75_method_44_code
def yJ1_floorKey : MethodName := ⟨RJ1, "floorKey", "(Ljava/lang/Object;)Ljava/lang/Object;"⟩
def dkwJ1_floorKey_0 : List UInt8 := [42, 43, 182, 0, 210, 184, 0, 207, 176]
abbrev dktJ1_floorKey_0 : List UInt8 := dkwJ1_floorKey_0 ++ []
theorem dksJ1_floorKey_0 : cJ1_floorKey.data.toList.drop 0 = dktJ1_floorKey_0 := by decide +kernel
theorem dJ1_floorKey_0 : decode cJ1_floorKey 0 = .ok (.aload_n 0, 1) := dk_42 (dk_at dksJ1_floorKey_0 0 rfl rfl)
theorem dJ1_floorKey_1 : decode cJ1_floorKey 1 = .ok (.aload_n 1, 1) := dk_43 (dk_at dksJ1_floorKey_0 1 rfl rfl)
theorem dJ1_floorKey_2 : decode cJ1_floorKey 2 = .ok (.invokevirtual 210, 3) := dk_182 0 210 (dk_at dksJ1_floorKey_0 2 rfl rfl)
theorem dJ1_floorKey_5 : decode cJ1_floorKey 5 = .ok (.invokestatic 207, 3) := dk_184 0 207 (dk_at dksJ1_floorKey_0 5 rfl rfl)
theorem dJ1_floorKey_8 : decode cJ1_floorKey 8 = .ok (.areturn, 1) := dk_176 (dk_at dksJ1_floorKey_0 8 rfl rfl)
abbrev kJ1_floorKey : KX := (cJ1_floorKey, "java/util/TreeMap", "floorKey", 2, some (.object "java/lang/Object"), [], 11)
abbrev cJ1_getFloorEntry : ByteArray := prog_75_method_18_code
def yJ1_getFloorEntry : MethodName := ⟨RJ1, "getFloorEntry", "(Ljava/lang/Object;)Ljava/util/TreeMap$Entry;"⟩
def dkwJ1_getFloorEntry_4 : List UInt8 := [167, 255, 230, 25, 4, 176, 44, 176, 167, 255, 159, 1, 176]
abbrev dktJ1_getFloorEntry_4 : List UInt8 := dkwJ1_getFloorEntry_4 ++ []
def dkwJ1_getFloorEntry_3 : List UInt8 := [198, 0, 27, 25, 5, 25, 4, 180, 0, 111, 166, 0, 17, 25, 4, 58, 5, 25, 4, 180, 0, 124, 58, 4]
abbrev dktJ1_getFloorEntry_3 : List UInt8 := dkwJ1_getFloorEntry_3 ++ dktJ1_getFloorEntry_4
def dkwJ1_getFloorEntry_2 : List UInt8 := [198, 0, 11, 44, 180, 0, 111, 77, 167, 0, 46, 44, 180, 0, 124, 58, 4, 44, 58, 5, 25, 4]
abbrev dktJ1_getFloorEntry_2 : List UInt8 := dkwJ1_getFloorEntry_2 ++ dktJ1_getFloorEntry_3
def dkwJ1_getFloorEntry_1 : List UInt8 := [180, 0, 114, 198, 0, 11, 44, 180, 0, 114, 77, 167, 0, 67, 44, 176, 29, 156, 0, 59, 44, 180, 0, 111]
abbrev dktJ1_getFloorEntry_1 : List UInt8 := dkwJ1_getFloorEntry_1 ++ dktJ1_getFloorEntry_2
def dkwJ1_getFloorEntry_0 : List UInt8 := [42, 180, 0, 101, 77, 44, 198, 0, 99, 42, 43, 44, 180, 0, 105, 182, 0, 123, 62, 29, 158, 0, 20, 44]
abbrev dktJ1_getFloorEntry_0 : List UInt8 := dkwJ1_getFloorEntry_0 ++ dktJ1_getFloorEntry_1
theorem dksJ1_getFloorEntry_0 : cJ1_getFloorEntry.data.toList.drop 0 = dktJ1_getFloorEntry_0 := by decide +kernel
theorem dksJ1_getFloorEntry_1 : cJ1_getFloorEntry.data.toList.drop 24 = dktJ1_getFloorEntry_1 := dk_seg dksJ1_getFloorEntry_0 24 rfl rfl
theorem dksJ1_getFloorEntry_2 : cJ1_getFloorEntry.data.toList.drop 48 = dktJ1_getFloorEntry_2 := dk_seg dksJ1_getFloorEntry_1 24 rfl rfl
theorem dksJ1_getFloorEntry_3 : cJ1_getFloorEntry.data.toList.drop 70 = dktJ1_getFloorEntry_3 := dk_seg dksJ1_getFloorEntry_2 22 rfl rfl
theorem dksJ1_getFloorEntry_4 : cJ1_getFloorEntry.data.toList.drop 94 = dktJ1_getFloorEntry_4 := dk_seg dksJ1_getFloorEntry_3 24 rfl rfl
theorem dJ1_getFloorEntry_0 : decode cJ1_getFloorEntry 0 = .ok (.aload_n 0, 1) := dk_42 (dk_at dksJ1_getFloorEntry_0 0 rfl rfl)
theorem dJ1_getFloorEntry_1 : decode cJ1_getFloorEntry 1 = .ok (.getfield 101, 3) := dk_180 0 101 (dk_at dksJ1_getFloorEntry_0 1 rfl rfl)
theorem dJ1_getFloorEntry_4 : decode cJ1_getFloorEntry 4 = .ok (.astore_n 2, 1) := dk_77 (dk_at dksJ1_getFloorEntry_0 4 rfl rfl)
theorem dJ1_getFloorEntry_5 : decode cJ1_getFloorEntry 5 = .ok (.aload_n 2, 1) := dk_44 (dk_at dksJ1_getFloorEntry_0 5 rfl rfl)
theorem dJ1_getFloorEntry_6 : decode cJ1_getFloorEntry 6 = .ok (.ifnull 99, 3) := dk_198 0 99 (dk_at dksJ1_getFloorEntry_0 6 rfl rfl)
theorem dJ1_getFloorEntry_9 : decode cJ1_getFloorEntry 9 = .ok (.aload_n 0, 1) := dk_42 (dk_at dksJ1_getFloorEntry_0 9 rfl rfl)
theorem dJ1_getFloorEntry_10 : decode cJ1_getFloorEntry 10 = .ok (.aload_n 1, 1) := dk_43 (dk_at dksJ1_getFloorEntry_0 10 rfl rfl)
theorem dJ1_getFloorEntry_11 : decode cJ1_getFloorEntry 11 = .ok (.aload_n 2, 1) := dk_44 (dk_at dksJ1_getFloorEntry_0 11 rfl rfl)
theorem dJ1_getFloorEntry_12 : decode cJ1_getFloorEntry 12 = .ok (.getfield 105, 3) := dk_180 0 105 (dk_at dksJ1_getFloorEntry_0 12 rfl rfl)
theorem dJ1_getFloorEntry_15 : decode cJ1_getFloorEntry 15 = .ok (.invokevirtual 123, 3) := dk_182 0 123 (dk_at dksJ1_getFloorEntry_0 15 rfl rfl)
theorem dJ1_getFloorEntry_18 : decode cJ1_getFloorEntry 18 = .ok (.istore_n 3, 1) := dk_62 (dk_at dksJ1_getFloorEntry_0 18 rfl rfl)
theorem dJ1_getFloorEntry_19 : decode cJ1_getFloorEntry 19 = .ok (.iload_n 3, 1) := dk_29 (dk_at dksJ1_getFloorEntry_0 19 rfl rfl)
theorem dJ1_getFloorEntry_20 : decode cJ1_getFloorEntry 20 = .ok (.ifCond .le 20, 3) := dk_158 0 20 (dk_at dksJ1_getFloorEntry_0 20 rfl rfl)
theorem dJ1_getFloorEntry_23 : decode cJ1_getFloorEntry 23 = .ok (.aload_n 2, 1) := dk_44 (dk_at dksJ1_getFloorEntry_0 23 rfl rfl)
theorem dJ1_getFloorEntry_24 : decode cJ1_getFloorEntry 24 = .ok (.getfield 114, 3) := dk_180 0 114 (dk_at dksJ1_getFloorEntry_1 0 rfl rfl)
theorem dJ1_getFloorEntry_27 : decode cJ1_getFloorEntry 27 = .ok (.ifnull 11, 3) := dk_198 0 11 (dk_at dksJ1_getFloorEntry_1 3 rfl rfl)
theorem dJ1_getFloorEntry_30 : decode cJ1_getFloorEntry 30 = .ok (.aload_n 2, 1) := dk_44 (dk_at dksJ1_getFloorEntry_1 6 rfl rfl)
theorem dJ1_getFloorEntry_31 : decode cJ1_getFloorEntry 31 = .ok (.getfield 114, 3) := dk_180 0 114 (dk_at dksJ1_getFloorEntry_1 7 rfl rfl)
theorem dJ1_getFloorEntry_34 : decode cJ1_getFloorEntry 34 = .ok (.astore_n 2, 1) := dk_77 (dk_at dksJ1_getFloorEntry_1 10 rfl rfl)
theorem dJ1_getFloorEntry_35 : decode cJ1_getFloorEntry 35 = .ok (.goto 67, 3) := dk_167 0 67 (dk_at dksJ1_getFloorEntry_1 11 rfl rfl)
theorem dJ1_getFloorEntry_38 : decode cJ1_getFloorEntry 38 = .ok (.aload_n 2, 1) := dk_44 (dk_at dksJ1_getFloorEntry_1 14 rfl rfl)
theorem dJ1_getFloorEntry_39 : decode cJ1_getFloorEntry 39 = .ok (.areturn, 1) := dk_176 (dk_at dksJ1_getFloorEntry_1 15 rfl rfl)
theorem dJ1_getFloorEntry_40 : decode cJ1_getFloorEntry 40 = .ok (.iload_n 3, 1) := dk_29 (dk_at dksJ1_getFloorEntry_1 16 rfl rfl)
theorem dJ1_getFloorEntry_41 : decode cJ1_getFloorEntry 41 = .ok (.ifCond .ge 59, 3) := dk_156 0 59 (dk_at dksJ1_getFloorEntry_1 17 rfl rfl)
theorem dJ1_getFloorEntry_44 : decode cJ1_getFloorEntry 44 = .ok (.aload_n 2, 1) := dk_44 (dk_at dksJ1_getFloorEntry_1 20 rfl rfl)
theorem dJ1_getFloorEntry_45 : decode cJ1_getFloorEntry 45 = .ok (.getfield 111, 3) := dk_180 0 111 (dk_at dksJ1_getFloorEntry_1 21 rfl rfl)
theorem dJ1_getFloorEntry_48 : decode cJ1_getFloorEntry 48 = .ok (.ifnull 11, 3) := dk_198 0 11 (dk_at dksJ1_getFloorEntry_2 0 rfl rfl)
theorem dJ1_getFloorEntry_51 : decode cJ1_getFloorEntry 51 = .ok (.aload_n 2, 1) := dk_44 (dk_at dksJ1_getFloorEntry_2 3 rfl rfl)
theorem dJ1_getFloorEntry_52 : decode cJ1_getFloorEntry 52 = .ok (.getfield 111, 3) := dk_180 0 111 (dk_at dksJ1_getFloorEntry_2 4 rfl rfl)
theorem dJ1_getFloorEntry_55 : decode cJ1_getFloorEntry 55 = .ok (.astore_n 2, 1) := dk_77 (dk_at dksJ1_getFloorEntry_2 7 rfl rfl)
theorem dJ1_getFloorEntry_56 : decode cJ1_getFloorEntry 56 = .ok (.goto 46, 3) := dk_167 0 46 (dk_at dksJ1_getFloorEntry_2 8 rfl rfl)
theorem dJ1_getFloorEntry_59 : decode cJ1_getFloorEntry 59 = .ok (.aload_n 2, 1) := dk_44 (dk_at dksJ1_getFloorEntry_2 11 rfl rfl)
theorem dJ1_getFloorEntry_60 : decode cJ1_getFloorEntry 60 = .ok (.getfield 124, 3) := dk_180 0 124 (dk_at dksJ1_getFloorEntry_2 12 rfl rfl)
theorem dJ1_getFloorEntry_63 : decode cJ1_getFloorEntry 63 = .ok (.astore 4, 2) := dk_58 4 (dk_at dksJ1_getFloorEntry_2 15 rfl rfl)
theorem dJ1_getFloorEntry_65 : decode cJ1_getFloorEntry 65 = .ok (.aload_n 2, 1) := dk_44 (dk_at dksJ1_getFloorEntry_2 17 rfl rfl)
theorem dJ1_getFloorEntry_66 : decode cJ1_getFloorEntry 66 = .ok (.astore 5, 2) := dk_58 5 (dk_at dksJ1_getFloorEntry_2 18 rfl rfl)
theorem dJ1_getFloorEntry_68 : decode cJ1_getFloorEntry 68 = .ok (.aload 4, 2) := dk_25 4 (dk_at dksJ1_getFloorEntry_2 20 rfl rfl)
theorem dJ1_getFloorEntry_70 : decode cJ1_getFloorEntry 70 = .ok (.ifnull 27, 3) := dk_198 0 27 (dk_at dksJ1_getFloorEntry_3 0 rfl rfl)
theorem dJ1_getFloorEntry_73 : decode cJ1_getFloorEntry 73 = .ok (.aload 5, 2) := dk_25 5 (dk_at dksJ1_getFloorEntry_3 3 rfl rfl)
theorem dJ1_getFloorEntry_75 : decode cJ1_getFloorEntry 75 = .ok (.aload 4, 2) := dk_25 4 (dk_at dksJ1_getFloorEntry_3 5 rfl rfl)
theorem dJ1_getFloorEntry_77 : decode cJ1_getFloorEntry 77 = .ok (.getfield 111, 3) := dk_180 0 111 (dk_at dksJ1_getFloorEntry_3 7 rfl rfl)
theorem dJ1_getFloorEntry_80 : decode cJ1_getFloorEntry 80 = .ok (.if_acmp .ne 17, 3) := dk_166 0 17 (dk_at dksJ1_getFloorEntry_3 10 rfl rfl)
theorem dJ1_getFloorEntry_83 : decode cJ1_getFloorEntry 83 = .ok (.aload 4, 2) := dk_25 4 (dk_at dksJ1_getFloorEntry_3 13 rfl rfl)
theorem dJ1_getFloorEntry_85 : decode cJ1_getFloorEntry 85 = .ok (.astore 5, 2) := dk_58 5 (dk_at dksJ1_getFloorEntry_3 15 rfl rfl)
theorem dJ1_getFloorEntry_87 : decode cJ1_getFloorEntry 87 = .ok (.aload 4, 2) := dk_25 4 (dk_at dksJ1_getFloorEntry_3 17 rfl rfl)
theorem dJ1_getFloorEntry_89 : decode cJ1_getFloorEntry 89 = .ok (.getfield 124, 3) := dk_180 0 124 (dk_at dksJ1_getFloorEntry_3 19 rfl rfl)
theorem dJ1_getFloorEntry_92 : decode cJ1_getFloorEntry 92 = .ok (.astore 4, 2) := dk_58 4 (dk_at dksJ1_getFloorEntry_3 22 rfl rfl)
theorem dJ1_getFloorEntry_94 : decode cJ1_getFloorEntry 94 = .ok (.goto (-26), 3) := dk_167 255 230 (dk_at dksJ1_getFloorEntry_4 0 rfl rfl)
theorem dJ1_getFloorEntry_97 : decode cJ1_getFloorEntry 97 = .ok (.aload 4, 2) := dk_25 4 (dk_at dksJ1_getFloorEntry_4 3 rfl rfl)
theorem dJ1_getFloorEntry_99 : decode cJ1_getFloorEntry 99 = .ok (.areturn, 1) := dk_176 (dk_at dksJ1_getFloorEntry_4 5 rfl rfl)
theorem dJ1_getFloorEntry_100 : decode cJ1_getFloorEntry 100 = .ok (.aload_n 2, 1) := dk_44 (dk_at dksJ1_getFloorEntry_4 6 rfl rfl)
theorem dJ1_getFloorEntry_101 : decode cJ1_getFloorEntry 101 = .ok (.areturn, 1) := dk_176 (dk_at dksJ1_getFloorEntry_4 7 rfl rfl)
theorem dJ1_getFloorEntry_102 : decode cJ1_getFloorEntry 102 = .ok (.goto (-97), 3) := dk_167 255 159 (dk_at dksJ1_getFloorEntry_4 8 rfl rfl)
theorem dJ1_getFloorEntry_105 : decode cJ1_getFloorEntry 105 = .ok (.aconst_null, 1) := dk_1 (dk_at dksJ1_getFloorEntry_4 11 rfl rfl)
theorem dJ1_getFloorEntry_106 : decode cJ1_getFloorEntry 106 = .ok (.areturn, 1) := dk_176 (dk_at dksJ1_getFloorEntry_4 12 rfl rfl)
abbrev kJ1_getFloorEntry : KX := (cJ1_getFloorEntry, "java/util/TreeMap", "getFloorEntry", 6, some (.object "java/util/TreeMap$Entry"), [], 10)
abbrev cJ1_keyOrNull : ByteArray := prog_75_method_70_code
def yJ1_keyOrNull : MethodName := ⟨RJ1, "keyOrNull", "(Ljava/util/TreeMap$Entry;)Ljava/lang/Object;"⟩
def dkwJ1_keyOrNull_0 : List UInt8 := [42, 199, 0, 7, 1, 167, 0, 7, 42, 180, 0, 105, 176]
abbrev dktJ1_keyOrNull_0 : List UInt8 := dkwJ1_keyOrNull_0 ++ []
theorem dksJ1_keyOrNull_0 : cJ1_keyOrNull.data.toList.drop 0 = dktJ1_keyOrNull_0 := by decide +kernel
theorem dJ1_keyOrNull_0 : decode cJ1_keyOrNull 0 = .ok (.aload_n 0, 1) := dk_42 (dk_at dksJ1_keyOrNull_0 0 rfl rfl)
theorem dJ1_keyOrNull_1 : decode cJ1_keyOrNull 1 = .ok (.ifnonnull 7, 3) := dk_199 0 7 (dk_at dksJ1_keyOrNull_0 1 rfl rfl)
theorem dJ1_keyOrNull_4 : decode cJ1_keyOrNull 4 = .ok (.aconst_null, 1) := dk_1 (dk_at dksJ1_keyOrNull_0 4 rfl rfl)
theorem dJ1_keyOrNull_5 : decode cJ1_keyOrNull 5 = .ok (.goto 7, 3) := dk_167 0 7 (dk_at dksJ1_keyOrNull_0 5 rfl rfl)
theorem dJ1_keyOrNull_8 : decode cJ1_keyOrNull 8 = .ok (.aload_n 0, 1) := dk_42 (dk_at dksJ1_keyOrNull_0 8 rfl rfl)
theorem dJ1_keyOrNull_9 : decode cJ1_keyOrNull 9 = .ok (.getfield 105, 3) := dk_180 0 105 (dk_at dksJ1_keyOrNull_0 9 rfl rfl)
theorem dJ1_keyOrNull_12 : decode cJ1_keyOrNull 12 = .ok (.areturn, 1) := dk_176 (dk_at dksJ1_keyOrNull_0 12 rfl rfl)
abbrev kJ1_keyOrNull : KX := (cJ1_keyOrNull, "java/util/TreeMap", "keyOrNull", 1, some (.object "java/lang/Object"), [], 0)
abbrev cJ1_ceilingKey : ByteArray := prog_75_method_46_code
def yJ1_ceilingKey : MethodName := ⟨RJ1, "ceilingKey", "(Ljava/lang/Object;)Ljava/lang/Object;"⟩
def dkwJ1_ceilingKey_0 : List UInt8 := [42, 43, 182, 0, 213, 184, 0, 207, 176]
abbrev dktJ1_ceilingKey_0 : List UInt8 := dkwJ1_ceilingKey_0 ++ []
theorem dksJ1_ceilingKey_0 : cJ1_ceilingKey.data.toList.drop 0 = dktJ1_ceilingKey_0 := by decide +kernel
theorem dJ1_ceilingKey_0 : decode cJ1_ceilingKey 0 = .ok (.aload_n 0, 1) := dk_42 (dk_at dksJ1_ceilingKey_0 0 rfl rfl)
theorem dJ1_ceilingKey_1 : decode cJ1_ceilingKey 1 = .ok (.aload_n 1, 1) := dk_43 (dk_at dksJ1_ceilingKey_0 1 rfl rfl)
theorem dJ1_ceilingKey_2 : decode cJ1_ceilingKey 2 = .ok (.invokevirtual 213, 3) := dk_182 0 213 (dk_at dksJ1_ceilingKey_0 2 rfl rfl)
theorem dJ1_ceilingKey_5 : decode cJ1_ceilingKey 5 = .ok (.invokestatic 207, 3) := dk_184 0 207 (dk_at dksJ1_ceilingKey_0 5 rfl rfl)
theorem dJ1_ceilingKey_8 : decode cJ1_ceilingKey 8 = .ok (.areturn, 1) := dk_176 (dk_at dksJ1_ceilingKey_0 8 rfl rfl)
abbrev kJ1_ceilingKey : KX := (cJ1_ceilingKey, "java/util/TreeMap", "ceilingKey", 2, some (.object "java/lang/Object"), [], 11)
abbrev cJ1_values : ByteArray := prog_75_method_52_code
def yJ1_values : MethodName := ⟨RJ1, "values", "()Ljava/util/Collection;"⟩
def dkwJ1_values_1 : List UInt8 := [176]
abbrev dktJ1_values_1 : List UInt8 := dkwJ1_values_1 ++ []
def dkwJ1_values_0 : List UInt8 := [42, 180, 0, 233, 76, 43, 199, 0, 17, 187, 0, 237, 89, 42, 183, 0, 239, 76, 42, 43, 181, 0, 233, 43]
abbrev dktJ1_values_0 : List UInt8 := dkwJ1_values_0 ++ dktJ1_values_1
theorem dksJ1_values_0 : cJ1_values.data.toList.drop 0 = dktJ1_values_0 := by decide +kernel
theorem dksJ1_values_1 : cJ1_values.data.toList.drop 24 = dktJ1_values_1 := dk_seg dksJ1_values_0 24 rfl rfl
theorem dJ1_values_0 : decode cJ1_values 0 = .ok (.aload_n 0, 1) := dk_42 (dk_at dksJ1_values_0 0 rfl rfl)
theorem dJ1_values_1 : decode cJ1_values 1 = .ok (.getfield 233, 3) := dk_180 0 233 (dk_at dksJ1_values_0 1 rfl rfl)
theorem dJ1_values_4 : decode cJ1_values 4 = .ok (.astore_n 1, 1) := dk_76 (dk_at dksJ1_values_0 4 rfl rfl)
theorem dJ1_values_5 : decode cJ1_values 5 = .ok (.aload_n 1, 1) := dk_43 (dk_at dksJ1_values_0 5 rfl rfl)
theorem dJ1_values_6 : decode cJ1_values 6 = .ok (.ifnonnull 17, 3) := dk_199 0 17 (dk_at dksJ1_values_0 6 rfl rfl)
theorem dJ1_values_9 : decode cJ1_values 9 = .ok (.new 237, 3) := dk_187 0 237 (dk_at dksJ1_values_0 9 rfl rfl)
theorem dJ1_values_12 : decode cJ1_values 12 = .ok (.dup, 1) := dk_89 (dk_at dksJ1_values_0 12 rfl rfl)
theorem dJ1_values_13 : decode cJ1_values 13 = .ok (.aload_n 0, 1) := dk_42 (dk_at dksJ1_values_0 13 rfl rfl)
theorem dJ1_values_14 : decode cJ1_values 14 = .ok (.invokespecial 239, 3) := dk_183 0 239 (dk_at dksJ1_values_0 14 rfl rfl)
theorem dJ1_values_17 : decode cJ1_values 17 = .ok (.astore_n 1, 1) := dk_76 (dk_at dksJ1_values_0 17 rfl rfl)
theorem dJ1_values_18 : decode cJ1_values 18 = .ok (.aload_n 0, 1) := dk_42 (dk_at dksJ1_values_0 18 rfl rfl)
theorem dJ1_values_19 : decode cJ1_values 19 = .ok (.aload_n 1, 1) := dk_43 (dk_at dksJ1_values_0 19 rfl rfl)
theorem dJ1_values_20 : decode cJ1_values 20 = .ok (.putfield 233, 3) := dk_181 0 233 (dk_at dksJ1_values_0 20 rfl rfl)
theorem dJ1_values_23 : decode cJ1_values 23 = .ok (.aload_n 1, 1) := dk_43 (dk_at dksJ1_values_0 23 rfl rfl)
theorem dJ1_values_24 : decode cJ1_values 24 = .ok (.areturn, 1) := dk_176 (dk_at dksJ1_values_1 0 rfl rfl)
abbrev kJ1_values : KX := (cJ1_values, "java/util/TreeMap", "values", 2, some (.object "java/util/Collection"), [], 3)
abbrev cJ1_headMap : ByteArray := prog_75_method_56_code
def yJ1_headMap : MethodName := ⟨RJ1, "headMap", "(Ljava/lang/Object;Z)Ljava/util/NavigableMap;"⟩
def dkwJ1_headMap_0 : List UInt8 := [187, 0, 250, 89, 42, 4, 1, 4, 3, 43, 28, 183, 0, 252, 176]
abbrev dktJ1_headMap_0 : List UInt8 := dkwJ1_headMap_0 ++ []
theorem dksJ1_headMap_0 : cJ1_headMap.data.toList.drop 0 = dktJ1_headMap_0 := by decide +kernel
theorem dJ1_headMap_0 : decode cJ1_headMap 0 = .ok (.new 250, 3) := dk_187 0 250 (dk_at dksJ1_headMap_0 0 rfl rfl)
theorem dJ1_headMap_3 : decode cJ1_headMap 3 = .ok (.dup, 1) := dk_89 (dk_at dksJ1_headMap_0 3 rfl rfl)
theorem dJ1_headMap_4 : decode cJ1_headMap 4 = .ok (.aload_n 0, 1) := dk_42 (dk_at dksJ1_headMap_0 4 rfl rfl)
theorem dJ1_headMap_5 : decode cJ1_headMap 5 = .ok (.iconst 1, 1) := dk_4 (dk_at dksJ1_headMap_0 5 rfl rfl)
theorem dJ1_headMap_6 : decode cJ1_headMap 6 = .ok (.aconst_null, 1) := dk_1 (dk_at dksJ1_headMap_0 6 rfl rfl)
theorem dJ1_headMap_7 : decode cJ1_headMap 7 = .ok (.iconst 1, 1) := dk_4 (dk_at dksJ1_headMap_0 7 rfl rfl)
theorem dJ1_headMap_8 : decode cJ1_headMap 8 = .ok (.iconst 0, 1) := dk_3 (dk_at dksJ1_headMap_0 8 rfl rfl)
theorem dJ1_headMap_9 : decode cJ1_headMap 9 = .ok (.aload_n 1, 1) := dk_43 (dk_at dksJ1_headMap_0 9 rfl rfl)
theorem dJ1_headMap_10 : decode cJ1_headMap 10 = .ok (.iload_n 2, 1) := dk_28 (dk_at dksJ1_headMap_0 10 rfl rfl)
theorem dJ1_headMap_11 : decode cJ1_headMap 11 = .ok (.invokespecial 252, 3) := dk_183 0 252 (dk_at dksJ1_headMap_0 11 rfl rfl)
theorem dJ1_headMap_14 : decode cJ1_headMap 14 = .ok (.areturn, 1) := dk_176 (dk_at dksJ1_headMap_0 14 rfl rfl)
abbrev kJ1_headMap : KX := (cJ1_headMap, "java/util/TreeMap", "headMap", 3, some (.object "java/util/NavigableMap"), [], 12)
abbrev cJ1_remove : ByteArray := prog_75_method_34_code
def yJ1_remove : MethodName := ⟨RJ1, "remove", "(Ljava/lang/Object;)Ljava/lang/Object;"⟩
def dkwJ1_remove_0 : List UInt8 := [42, 43, 182, 0, 50, 77, 44, 199, 0, 5, 1, 176, 44, 180, 0, 58, 78, 42, 44, 182, 0, 174, 45, 176]
abbrev dktJ1_remove_0 : List UInt8 := dkwJ1_remove_0 ++ []
theorem dksJ1_remove_0 : cJ1_remove.data.toList.drop 0 = dktJ1_remove_0 := by decide +kernel
theorem dJ1_remove_0 : decode cJ1_remove 0 = .ok (.aload_n 0, 1) := dk_42 (dk_at dksJ1_remove_0 0 rfl rfl)
theorem dJ1_remove_1 : decode cJ1_remove 1 = .ok (.aload_n 1, 1) := dk_43 (dk_at dksJ1_remove_0 1 rfl rfl)
theorem dJ1_remove_2 : decode cJ1_remove 2 = .ok (.invokevirtual 50, 3) := dk_182 0 50 (dk_at dksJ1_remove_0 2 rfl rfl)
theorem dJ1_remove_5 : decode cJ1_remove 5 = .ok (.astore_n 2, 1) := dk_77 (dk_at dksJ1_remove_0 5 rfl rfl)
theorem dJ1_remove_6 : decode cJ1_remove 6 = .ok (.aload_n 2, 1) := dk_44 (dk_at dksJ1_remove_0 6 rfl rfl)
theorem dJ1_remove_7 : decode cJ1_remove 7 = .ok (.ifnonnull 5, 3) := dk_199 0 5 (dk_at dksJ1_remove_0 7 rfl rfl)
theorem dJ1_remove_10 : decode cJ1_remove 10 = .ok (.aconst_null, 1) := dk_1 (dk_at dksJ1_remove_0 10 rfl rfl)
theorem dJ1_remove_11 : decode cJ1_remove 11 = .ok (.areturn, 1) := dk_176 (dk_at dksJ1_remove_0 11 rfl rfl)
theorem dJ1_remove_12 : decode cJ1_remove 12 = .ok (.aload_n 2, 1) := dk_44 (dk_at dksJ1_remove_0 12 rfl rfl)
theorem dJ1_remove_13 : decode cJ1_remove 13 = .ok (.getfield 58, 3) := dk_180 0 58 (dk_at dksJ1_remove_0 13 rfl rfl)
theorem dJ1_remove_16 : decode cJ1_remove 16 = .ok (.astore_n 3, 1) := dk_78 (dk_at dksJ1_remove_0 16 rfl rfl)
theorem dJ1_remove_17 : decode cJ1_remove 17 = .ok (.aload_n 0, 1) := dk_42 (dk_at dksJ1_remove_0 17 rfl rfl)
theorem dJ1_remove_18 : decode cJ1_remove 18 = .ok (.aload_n 2, 1) := dk_44 (dk_at dksJ1_remove_0 18 rfl rfl)
theorem dJ1_remove_19 : decode cJ1_remove 19 = .ok (.invokevirtual 174, 3) := dk_182 0 174 (dk_at dksJ1_remove_0 19 rfl rfl)
theorem dJ1_remove_22 : decode cJ1_remove 22 = .ok (.aload_n 3, 1) := dk_45 (dk_at dksJ1_remove_0 22 rfl rfl)
theorem dJ1_remove_23 : decode cJ1_remove 23 = .ok (.areturn, 1) := dk_176 (dk_at dksJ1_remove_0 23 rfl rfl)
abbrev kJ1_remove : KX := (cJ1_remove, "java/util/TreeMap", "remove", 4, some (.object "java/lang/Object"), [], 10)
abbrev cJ1_init_2 : ByteArray := prog_75_method_2_code
def yJ1_init_2 : MethodName := ⟨RJ1, "<init>", "(Ljava/util/Comparator;)V"⟩
def dkwJ1_init_2_0 : List UInt8 := [42, 183, 0, 1, 42, 3, 181, 0, 7, 42, 3, 181, 0, 13, 42, 43, 181, 0, 16, 177]
abbrev dktJ1_init_2_0 : List UInt8 := dkwJ1_init_2_0 ++ []
theorem dksJ1_init_2_0 : cJ1_init_2.data.toList.drop 0 = dktJ1_init_2_0 := by decide +kernel
theorem dJ1_init_2_0 : decode cJ1_init_2 0 = .ok (.aload_n 0, 1) := dk_42 (dk_at dksJ1_init_2_0 0 rfl rfl)
theorem dJ1_init_2_1 : decode cJ1_init_2 1 = .ok (.invokespecial 1, 3) := dk_183 0 1 (dk_at dksJ1_init_2_0 1 rfl rfl)
theorem dJ1_init_2_4 : decode cJ1_init_2 4 = .ok (.aload_n 0, 1) := dk_42 (dk_at dksJ1_init_2_0 4 rfl rfl)
theorem dJ1_init_2_5 : decode cJ1_init_2 5 = .ok (.iconst 0, 1) := dk_3 (dk_at dksJ1_init_2_0 5 rfl rfl)
theorem dJ1_init_2_6 : decode cJ1_init_2 6 = .ok (.putfield 7, 3) := dk_181 0 7 (dk_at dksJ1_init_2_0 6 rfl rfl)
theorem dJ1_init_2_9 : decode cJ1_init_2 9 = .ok (.aload_n 0, 1) := dk_42 (dk_at dksJ1_init_2_0 9 rfl rfl)
theorem dJ1_init_2_10 : decode cJ1_init_2 10 = .ok (.iconst 0, 1) := dk_3 (dk_at dksJ1_init_2_0 10 rfl rfl)
theorem dJ1_init_2_11 : decode cJ1_init_2 11 = .ok (.putfield 13, 3) := dk_181 0 13 (dk_at dksJ1_init_2_0 11 rfl rfl)
theorem dJ1_init_2_14 : decode cJ1_init_2 14 = .ok (.aload_n 0, 1) := dk_42 (dk_at dksJ1_init_2_0 14 rfl rfl)
theorem dJ1_init_2_15 : decode cJ1_init_2 15 = .ok (.aload_n 1, 1) := dk_43 (dk_at dksJ1_init_2_0 15 rfl rfl)
theorem dJ1_init_2_16 : decode cJ1_init_2 16 = .ok (.putfield 16, 3) := dk_181 0 16 (dk_at dksJ1_init_2_0 16 rfl rfl)
theorem dJ1_init_2_19 : decode cJ1_init_2 19 = .ok (.return_, 1) := dk_177 (dk_at dksJ1_init_2_0 19 rfl rfl)
abbrev kJ1_init_2 : KX := (cJ1_init_2, "java/util/TreeMap", "<init>", 2, none, [], 2)
abbrev cJ1_firstKey : ByteArray := prog_75_method_10_code
def yJ1_firstKey : MethodName := ⟨RJ1, "firstKey", "()Ljava/lang/Object;"⟩
def dkwJ1_firstKey_0 : List UInt8 := [42, 182, 0, 54, 184, 0, 72, 176]
abbrev dktJ1_firstKey_0 : List UInt8 := dkwJ1_firstKey_0 ++ []
theorem dksJ1_firstKey_0 : cJ1_firstKey.data.toList.drop 0 = dktJ1_firstKey_0 := by decide +kernel
theorem dJ1_firstKey_0 : decode cJ1_firstKey 0 = .ok (.aload_n 0, 1) := dk_42 (dk_at dksJ1_firstKey_0 0 rfl rfl)
theorem dJ1_firstKey_1 : decode cJ1_firstKey 1 = .ok (.invokevirtual 54, 3) := dk_182 0 54 (dk_at dksJ1_firstKey_0 1 rfl rfl)
theorem dJ1_firstKey_4 : decode cJ1_firstKey 4 = .ok (.invokestatic 72, 3) := dk_184 0 72 (dk_at dksJ1_firstKey_0 4 rfl rfl)
theorem dJ1_firstKey_7 : decode cJ1_firstKey 7 = .ok (.areturn, 1) := dk_176 (dk_at dksJ1_firstKey_0 7 rfl rfl)
abbrev kJ1_firstKey : KX := (cJ1_firstKey, "java/util/TreeMap", "firstKey", 1, some (.object "java/lang/Object"), [], 6)
abbrev cJ1_key : ByteArray := prog_75_method_71_code
def yJ1_key : MethodName := ⟨RJ1, "key", "(Ljava/util/TreeMap$Entry;)Ljava/lang/Object;"⟩
def dkwJ1_key_0 : List UInt8 := [42, 199, 0, 11, 187, 1, 31, 89, 183, 1, 33, 191, 42, 180, 0, 105, 176]
abbrev dktJ1_key_0 : List UInt8 := dkwJ1_key_0 ++ []
theorem dksJ1_key_0 : cJ1_key.data.toList.drop 0 = dktJ1_key_0 := by decide +kernel
theorem dJ1_key_0 : decode cJ1_key 0 = .ok (.aload_n 0, 1) := dk_42 (dk_at dksJ1_key_0 0 rfl rfl)
theorem dJ1_key_1 : decode cJ1_key 1 = .ok (.ifnonnull 11, 3) := dk_199 0 11 (dk_at dksJ1_key_0 1 rfl rfl)
theorem dJ1_key_4 : decode cJ1_key 4 = .ok (.new 287, 3) := dk_187 1 31 (dk_at dksJ1_key_0 4 rfl rfl)
theorem dJ1_key_7 : decode cJ1_key 7 = .ok (.dup, 1) := dk_89 (dk_at dksJ1_key_0 7 rfl rfl)
theorem dJ1_key_8 : decode cJ1_key 8 = .ok (.invokespecial 289, 3) := dk_183 1 33 (dk_at dksJ1_key_0 8 rfl rfl)
theorem dJ1_key_11 : decode cJ1_key 11 = .ok (.athrow, 1) := dk_191 (dk_at dksJ1_key_0 11 rfl rfl)
theorem dJ1_key_12 : decode cJ1_key 12 = .ok (.aload_n 0, 1) := dk_42 (dk_at dksJ1_key_0 12 rfl rfl)
theorem dJ1_key_13 : decode cJ1_key 13 = .ok (.getfield 105, 3) := dk_180 0 105 (dk_at dksJ1_key_0 13 rfl rfl)
theorem dJ1_key_16 : decode cJ1_key 16 = .ok (.areturn, 1) := dk_176 (dk_at dksJ1_key_0 16 rfl rfl)
abbrev kJ1_key : KX := (cJ1_key, "java/util/TreeMap", "key", 1, some (.object "java/lang/Object"), [], 5)
abbrev cJ1_pollFirstEntry : ByteArray := prog_75_method_39_code
def yJ1_pollFirstEntry : MethodName := ⟨RJ1, "pollFirstEntry", "()Ljava/util/Map$Entry;"⟩
def dkwJ1_pollFirstEntry_0 : List UInt8 := [42, 182, 0, 54, 76, 43, 184, 0, 200, 77, 43, 198, 0, 8, 42, 43, 182, 0, 174, 44, 176]
abbrev dktJ1_pollFirstEntry_0 : List UInt8 := dkwJ1_pollFirstEntry_0 ++ []
theorem dksJ1_pollFirstEntry_0 : cJ1_pollFirstEntry.data.toList.drop 0 = dktJ1_pollFirstEntry_0 := by decide +kernel
theorem dJ1_pollFirstEntry_0 : decode cJ1_pollFirstEntry 0 = .ok (.aload_n 0, 1) := dk_42 (dk_at dksJ1_pollFirstEntry_0 0 rfl rfl)
theorem dJ1_pollFirstEntry_1 : decode cJ1_pollFirstEntry 1 = .ok (.invokevirtual 54, 3) := dk_182 0 54 (dk_at dksJ1_pollFirstEntry_0 1 rfl rfl)
theorem dJ1_pollFirstEntry_4 : decode cJ1_pollFirstEntry 4 = .ok (.astore_n 1, 1) := dk_76 (dk_at dksJ1_pollFirstEntry_0 4 rfl rfl)
theorem dJ1_pollFirstEntry_5 : decode cJ1_pollFirstEntry 5 = .ok (.aload_n 1, 1) := dk_43 (dk_at dksJ1_pollFirstEntry_0 5 rfl rfl)
theorem dJ1_pollFirstEntry_6 : decode cJ1_pollFirstEntry 6 = .ok (.invokestatic 200, 3) := dk_184 0 200 (dk_at dksJ1_pollFirstEntry_0 6 rfl rfl)
theorem dJ1_pollFirstEntry_9 : decode cJ1_pollFirstEntry 9 = .ok (.astore_n 2, 1) := dk_77 (dk_at dksJ1_pollFirstEntry_0 9 rfl rfl)
theorem dJ1_pollFirstEntry_10 : decode cJ1_pollFirstEntry 10 = .ok (.aload_n 1, 1) := dk_43 (dk_at dksJ1_pollFirstEntry_0 10 rfl rfl)
theorem dJ1_pollFirstEntry_11 : decode cJ1_pollFirstEntry 11 = .ok (.ifnull 8, 3) := dk_198 0 8 (dk_at dksJ1_pollFirstEntry_0 11 rfl rfl)
theorem dJ1_pollFirstEntry_14 : decode cJ1_pollFirstEntry 14 = .ok (.aload_n 0, 1) := dk_42 (dk_at dksJ1_pollFirstEntry_0 14 rfl rfl)
theorem dJ1_pollFirstEntry_15 : decode cJ1_pollFirstEntry 15 = .ok (.aload_n 1, 1) := dk_43 (dk_at dksJ1_pollFirstEntry_0 15 rfl rfl)
theorem dJ1_pollFirstEntry_16 : decode cJ1_pollFirstEntry 16 = .ok (.invokevirtual 174, 3) := dk_182 0 174 (dk_at dksJ1_pollFirstEntry_0 16 rfl rfl)
theorem dJ1_pollFirstEntry_19 : decode cJ1_pollFirstEntry 19 = .ok (.aload_n 2, 1) := dk_44 (dk_at dksJ1_pollFirstEntry_0 19 rfl rfl)
theorem dJ1_pollFirstEntry_20 : decode cJ1_pollFirstEntry 20 = .ok (.areturn, 1) := dk_176 (dk_at dksJ1_pollFirstEntry_0 20 rfl rfl)
abbrev kJ1_pollFirstEntry : KX := (cJ1_pollFirstEntry, "java/util/TreeMap", "pollFirstEntry", 3, some (.object "java/util/Map$Entry"), [], 3)
abbrev cJ1_exportEntry : ByteArray := prog_75_method_69_code
def yJ1_exportEntry : MethodName := ⟨RJ1, "exportEntry", "(Ljava/util/TreeMap$Entry;)Ljava/util/Map$Entry;"⟩
def dkwJ1_exportEntry_0 : List UInt8 := [42, 199, 0, 7, 1, 167, 0, 11, 187, 1, 26, 89, 42, 183, 1, 28, 176]
abbrev dktJ1_exportEntry_0 : List UInt8 := dkwJ1_exportEntry_0 ++ []
theorem dksJ1_exportEntry_0 : cJ1_exportEntry.data.toList.drop 0 = dktJ1_exportEntry_0 := by decide +kernel
theorem dJ1_exportEntry_0 : decode cJ1_exportEntry 0 = .ok (.aload_n 0, 1) := dk_42 (dk_at dksJ1_exportEntry_0 0 rfl rfl)
theorem dJ1_exportEntry_1 : decode cJ1_exportEntry 1 = .ok (.ifnonnull 7, 3) := dk_199 0 7 (dk_at dksJ1_exportEntry_0 1 rfl rfl)
theorem dJ1_exportEntry_4 : decode cJ1_exportEntry 4 = .ok (.aconst_null, 1) := dk_1 (dk_at dksJ1_exportEntry_0 4 rfl rfl)
theorem dJ1_exportEntry_5 : decode cJ1_exportEntry 5 = .ok (.goto 11, 3) := dk_167 0 11 (dk_at dksJ1_exportEntry_0 5 rfl rfl)
theorem dJ1_exportEntry_8 : decode cJ1_exportEntry 8 = .ok (.new 282, 3) := dk_187 1 26 (dk_at dksJ1_exportEntry_0 8 rfl rfl)
theorem dJ1_exportEntry_11 : decode cJ1_exportEntry 11 = .ok (.dup, 1) := dk_89 (dk_at dksJ1_exportEntry_0 11 rfl rfl)
theorem dJ1_exportEntry_12 : decode cJ1_exportEntry 12 = .ok (.aload_n 0, 1) := dk_42 (dk_at dksJ1_exportEntry_0 12 rfl rfl)
theorem dJ1_exportEntry_13 : decode cJ1_exportEntry 13 = .ok (.invokespecial 284, 3) := dk_183 1 28 (dk_at dksJ1_exportEntry_0 13 rfl rfl)
theorem dJ1_exportEntry_16 : decode cJ1_exportEntry 16 = .ok (.areturn, 1) := dk_176 (dk_at dksJ1_exportEntry_0 16 rfl rfl)
abbrev kJ1_exportEntry : KX := (cJ1_exportEntry, "java/util/TreeMap", "exportEntry", 1, some (.object "java/util/Map$Entry"), [], 2)
abbrev cJ34_getKey : ByteArray := prog_78_method_2_code
def yJ34_getKey : MethodName := ⟨RJ34, "getKey", "()Ljava/lang/Object;"⟩
theorem dJ34_getKey_0 : decode cJ34_getKey 0 = .ok (.aload_n 0, 1) := by decide +kernel
theorem dJ34_getKey_1 : decode cJ34_getKey 1 = .ok (.getfield 15, 3) := by decide +kernel
theorem dJ34_getKey_4 : decode cJ34_getKey 4 = .ok (.areturn, 1) := by decide +kernel
abbrev kJ34_getKey : KX := (cJ34_getKey, "java/util/TreeMap$Entry", "getKey", 1, some (.object "java/lang/Object"), [], 0)
abbrev cJ34_getValue : ByteArray := prog_78_method_3_code
def yJ34_getValue : MethodName := ⟨RJ34, "getValue", "()Ljava/lang/Object;"⟩
theorem dJ34_getValue_0 : decode cJ34_getValue 0 = .ok (.aload_n 0, 1) := by decide +kernel
theorem dJ34_getValue_1 : decode cJ34_getValue 1 = .ok (.getfield 19, 3) := by decide +kernel
theorem dJ34_getValue_4 : decode cJ34_getValue 4 = .ok (.areturn, 1) := by decide +kernel
abbrev kJ34_getValue : KX := (cJ34_getValue, "java/util/TreeMap$Entry", "getValue", 1, some (.object "java/lang/Object"), [], 0)
abbrev cJ34_init : ByteArray := prog_78_method_1_code
def yJ34_init : MethodName := ⟨RJ34, "<init>", "(Ljava/lang/Object;Ljava/lang/Object;Ljava/util/TreeMap$Entry;)V"⟩
def dkwJ34_init_1 : List UInt8 := [177]
abbrev dktJ34_init_1 : List UInt8 := dkwJ34_init_1 ++ []
def dkwJ34_init_0 : List UInt8 := [42, 183, 0, 3, 42, 4, 181, 0, 9, 42, 43, 181, 0, 15, 42, 44, 181, 0, 19, 42, 45, 181, 0, 22]
abbrev dktJ34_init_0 : List UInt8 := dkwJ34_init_0 ++ dktJ34_init_1
theorem dksJ34_init_0 : cJ34_init.data.toList.drop 0 = dktJ34_init_0 := by decide +kernel
theorem dksJ34_init_1 : cJ34_init.data.toList.drop 24 = dktJ34_init_1 := dk_seg dksJ34_init_0 24 rfl rfl
theorem dJ34_init_0 : decode cJ34_init 0 = .ok (.aload_n 0, 1) := dk_42 (dk_at dksJ34_init_0 0 rfl rfl)
theorem dJ34_init_1 : decode cJ34_init 1 = .ok (.invokespecial 3, 3) := dk_183 0 3 (dk_at dksJ34_init_0 1 rfl rfl)
theorem dJ34_init_4 : decode cJ34_init 4 = .ok (.aload_n 0, 1) := dk_42 (dk_at dksJ34_init_0 4 rfl rfl)
theorem dJ34_init_5 : decode cJ34_init 5 = .ok (.iconst 1, 1) := dk_4 (dk_at dksJ34_init_0 5 rfl rfl)
theorem dJ34_init_6 : decode cJ34_init 6 = .ok (.putfield 9, 3) := dk_181 0 9 (dk_at dksJ34_init_0 6 rfl rfl)
theorem dJ34_init_9 : decode cJ34_init 9 = .ok (.aload_n 0, 1) := dk_42 (dk_at dksJ34_init_0 9 rfl rfl)
theorem dJ34_init_10 : decode cJ34_init 10 = .ok (.aload_n 1, 1) := dk_43 (dk_at dksJ34_init_0 10 rfl rfl)
theorem dJ34_init_11 : decode cJ34_init 11 = .ok (.putfield 15, 3) := dk_181 0 15 (dk_at dksJ34_init_0 11 rfl rfl)
theorem dJ34_init_14 : decode cJ34_init 14 = .ok (.aload_n 0, 1) := dk_42 (dk_at dksJ34_init_0 14 rfl rfl)
theorem dJ34_init_15 : decode cJ34_init 15 = .ok (.aload_n 2, 1) := dk_44 (dk_at dksJ34_init_0 15 rfl rfl)
theorem dJ34_init_16 : decode cJ34_init 16 = .ok (.putfield 19, 3) := dk_181 0 19 (dk_at dksJ34_init_0 16 rfl rfl)
theorem dJ34_init_19 : decode cJ34_init 19 = .ok (.aload_n 0, 1) := dk_42 (dk_at dksJ34_init_0 19 rfl rfl)
theorem dJ34_init_20 : decode cJ34_init 20 = .ok (.aload_n 3, 1) := dk_45 (dk_at dksJ34_init_0 20 rfl rfl)
theorem dJ34_init_21 : decode cJ34_init 21 = .ok (.putfield 22, 3) := dk_181 0 22 (dk_at dksJ34_init_0 21 rfl rfl)
theorem dJ34_init_24 : decode cJ34_init 24 = .ok (.return_, 1) := dk_177 (dk_at dksJ34_init_1 0 rfl rfl)
abbrev kJ34_init : KX := (cJ34_init, "java/util/TreeMap$Entry", "<init>", 4, none, [], 1)
abbrev cJ35_requireNonNull : ByteArray := prog_63_method_10_code
def yJ35_requireNonNull : MethodName := ⟨RJ35, "requireNonNull", "(Ljava/lang/Object;)Ljava/lang/Object;"⟩
def dkwJ35_requireNonNull_0 : List UInt8 := [42, 199, 0, 11, 187, 0, 84, 89, 183, 0, 86, 191, 42, 176]
abbrev dktJ35_requireNonNull_0 : List UInt8 := dkwJ35_requireNonNull_0 ++ []
theorem dksJ35_requireNonNull_0 : cJ35_requireNonNull.data.toList.drop 0 = dktJ35_requireNonNull_0 := by decide +kernel
theorem dJ35_requireNonNull_0 : decode cJ35_requireNonNull 0 = .ok (.aload_n 0, 1) := dk_42 (dk_at dksJ35_requireNonNull_0 0 rfl rfl)
theorem dJ35_requireNonNull_1 : decode cJ35_requireNonNull 1 = .ok (.ifnonnull 11, 3) := dk_199 0 11 (dk_at dksJ35_requireNonNull_0 1 rfl rfl)
theorem dJ35_requireNonNull_4 : decode cJ35_requireNonNull 4 = .ok (.new 84, 3) := dk_187 0 84 (dk_at dksJ35_requireNonNull_0 4 rfl rfl)
theorem dJ35_requireNonNull_7 : decode cJ35_requireNonNull 7 = .ok (.dup, 1) := dk_89 (dk_at dksJ35_requireNonNull_0 7 rfl rfl)
theorem dJ35_requireNonNull_8 : decode cJ35_requireNonNull 8 = .ok (.invokespecial 86, 3) := dk_183 0 86 (dk_at dksJ35_requireNonNull_0 8 rfl rfl)
theorem dJ35_requireNonNull_11 : decode cJ35_requireNonNull 11 = .ok (.athrow, 1) := dk_191 (dk_at dksJ35_requireNonNull_0 11 rfl rfl)
theorem dJ35_requireNonNull_12 : decode cJ35_requireNonNull 12 = .ok (.aload_n 0, 1) := dk_42 (dk_at dksJ35_requireNonNull_0 12 rfl rfl)
theorem dJ35_requireNonNull_13 : decode cJ35_requireNonNull 13 = .ok (.areturn, 1) := dk_176 (dk_at dksJ35_requireNonNull_0 13 rfl rfl)
abbrev kJ35_requireNonNull : KX := (cJ35_requireNonNull, "java/util/Objects", "requireNonNull", 1, some (.object "java/lang/Object"), [], 0)
abbrev cX8_compareTo : ByteArray := prog_12_method_3_code
def yX8_compareTo : MethodName := ⟨RX8, "compareTo", "(Ljava/lang/Object;)I"⟩
def dkwX8_compareTo_0 : List UInt8 := [42, 43, 192, 0, 8, 182, 0, 13, 172]
abbrev dktX8_compareTo_0 : List UInt8 := dkwX8_compareTo_0 ++ []
theorem dksX8_compareTo_0 : cX8_compareTo.data.toList.drop 0 = dktX8_compareTo_0 := by decide +kernel
theorem dX8_compareTo_0 : decode cX8_compareTo 0 = .ok (.aload_n 0, 1) := dk_42 (dk_at dksX8_compareTo_0 0 rfl rfl)
theorem dX8_compareTo_1 : decode cX8_compareTo 1 = .ok (.aload_n 1, 1) := dk_43 (dk_at dksX8_compareTo_0 1 rfl rfl)
theorem dX8_compareTo_2 : decode cX8_compareTo 2 = .ok (.checkcast 8, 3) := dk_192 0 8 (dk_at dksX8_compareTo_0 2 rfl rfl)
theorem dX8_compareTo_5 : decode cX8_compareTo 5 = .ok (.invokevirtual 13, 3) := dk_182 0 13 (dk_at dksX8_compareTo_0 5 rfl rfl)
theorem dX8_compareTo_8 : decode cX8_compareTo 8 = .ok (.ireturn, 1) := dk_172 (dk_at dksX8_compareTo_0 8 rfl rfl)
abbrev kX8_compareTo : KX := (cX8_compareTo, "TissueBalloons$Spot", "compareTo", 2, some .int, [], 1)
abbrev cX8_compareTo_2 : ByteArray := prog_12_method_2_code
def yX8_compareTo_2 : MethodName := ⟨RX8, "compareTo", "(LTissueBalloons$Spot;)I"⟩
def dkwX8_compareTo_2_0 : List UInt8 := [42, 180, 0, 7, 43, 180, 0, 7, 100, 172]
abbrev dktX8_compareTo_2_0 : List UInt8 := dkwX8_compareTo_2_0 ++ []
theorem dksX8_compareTo_2_0 : cX8_compareTo_2.data.toList.drop 0 = dktX8_compareTo_2_0 := by decide +kernel
theorem dX8_compareTo_2_0 : decode cX8_compareTo_2 0 = .ok (.aload_n 0, 1) := dk_42 (dk_at dksX8_compareTo_2_0 0 rfl rfl)
theorem dX8_compareTo_2_1 : decode cX8_compareTo_2 1 = .ok (.getfield 7, 3) := dk_180 0 7 (dk_at dksX8_compareTo_2_0 1 rfl rfl)
theorem dX8_compareTo_2_4 : decode cX8_compareTo_2 4 = .ok (.aload_n 1, 1) := dk_43 (dk_at dksX8_compareTo_2_0 4 rfl rfl)
theorem dX8_compareTo_2_5 : decode cX8_compareTo_2 5 = .ok (.getfield 7, 3) := dk_180 0 7 (dk_at dksX8_compareTo_2_0 5 rfl rfl)
theorem dX8_compareTo_2_8 : decode cX8_compareTo_2 8 = .ok (.isub, 1) := dk_100 (dk_at dksX8_compareTo_2_0 8 rfl rfl)
theorem dX8_compareTo_2_9 : decode cX8_compareTo_2 9 = .ok (.ireturn, 1) := dk_172 (dk_at dksX8_compareTo_2_0 9 rfl rfl)
abbrev kX8_compareTo_2 : KX := (cX8_compareTo_2, "TissueBalloons$Spot", "compareTo", 2, some .int, [], 0)
abbrev cX8_init : ByteArray := prog_12_method_1_code
def yX8_init : MethodName := ⟨RX8, "<init>", "(I)V"⟩
def dkwX8_init_0 : List UInt8 := [42, 183, 0, 1, 42, 27, 181, 0, 7, 177]
abbrev dktX8_init_0 : List UInt8 := dkwX8_init_0 ++ []
theorem dksX8_init_0 : cX8_init.data.toList.drop 0 = dktX8_init_0 := by decide +kernel
theorem dX8_init_0 : decode cX8_init 0 = .ok (.aload_n 0, 1) := dk_42 (dk_at dksX8_init_0 0 rfl rfl)
theorem dX8_init_1 : decode cX8_init 1 = .ok (.invokespecial 1, 3) := dk_183 0 1 (dk_at dksX8_init_0 1 rfl rfl)
theorem dX8_init_4 : decode cX8_init 4 = .ok (.aload_n 0, 1) := dk_42 (dk_at dksX8_init_0 4 rfl rfl)
theorem dX8_init_5 : decode cX8_init 5 = .ok (.iload_n 1, 1) := dk_27 (dk_at dksX8_init_0 5 rfl rfl)
theorem dX8_init_6 : decode cX8_init 6 = .ok (.putfield 7, 3) := dk_181 0 7 (dk_at dksX8_init_0 6 rfl rfl)
theorem dX8_init_9 : decode cX8_init 9 = .ok (.return_, 1) := dk_177 (dk_at dksX8_init_0 9 rfl rfl)
abbrev kX8_init : KX := (cX8_init, "TissueBalloons$Spot", "<init>", 2, none, [], 1)
abbrev cX10_compareTo : ByteArray := prog_8_method_3_code
def yX10_compareTo : MethodName := ⟨RX10, "compareTo", "(Ljava/lang/Object;)I"⟩
def dkwX10_compareTo_0 : List UInt8 := [42, 43, 192, 0, 8, 182, 0, 19, 172]
abbrev dktX10_compareTo_0 : List UInt8 := dkwX10_compareTo_0 ++ []
theorem dksX10_compareTo_0 : cX10_compareTo.data.toList.drop 0 = dktX10_compareTo_0 := by decide +kernel
theorem dX10_compareTo_0 : decode cX10_compareTo 0 = .ok (.aload_n 0, 1) := dk_42 (dk_at dksX10_compareTo_0 0 rfl rfl)
theorem dX10_compareTo_1 : decode cX10_compareTo 1 = .ok (.aload_n 1, 1) := dk_43 (dk_at dksX10_compareTo_0 1 rfl rfl)
theorem dX10_compareTo_2 : decode cX10_compareTo 2 = .ok (.checkcast 8, 3) := dk_192 0 8 (dk_at dksX10_compareTo_0 2 rfl rfl)
theorem dX10_compareTo_5 : decode cX10_compareTo 5 = .ok (.invokevirtual 19, 3) := dk_182 0 19 (dk_at dksX10_compareTo_0 5 rfl rfl)
theorem dX10_compareTo_8 : decode cX10_compareTo 8 = .ok (.ireturn, 1) := dk_172 (dk_at dksX10_compareTo_0 8 rfl rfl)
abbrev kX10_compareTo : KX := (cX10_compareTo, "TissueBalloons$Plan", "compareTo", 2, some .int, [], 1)
abbrev cX10_compareTo_2 : ByteArray := prog_8_method_2_code
def yX10_compareTo_2 : MethodName := ⟨RX10, "compareTo", "(LTissueBalloons$Plan;)I"⟩
def dkwX10_compareTo_2_1 : List UInt8 := [180, 0, 7, 43, 180, 0, 7, 100, 172]
abbrev dktX10_compareTo_2_1 : List UInt8 := dkwX10_compareTo_2_1 ++ []
def dkwX10_compareTo_2_0 : List UInt8 := [42, 180, 0, 16, 43, 180, 0, 16, 159, 0, 15, 42, 180, 0, 16, 43, 180, 0, 16, 100, 167, 0, 12, 42]
abbrev dktX10_compareTo_2_0 : List UInt8 := dkwX10_compareTo_2_0 ++ dktX10_compareTo_2_1
theorem dksX10_compareTo_2_0 : cX10_compareTo_2.data.toList.drop 0 = dktX10_compareTo_2_0 := by decide +kernel
theorem dksX10_compareTo_2_1 : cX10_compareTo_2.data.toList.drop 24 = dktX10_compareTo_2_1 := dk_seg dksX10_compareTo_2_0 24 rfl rfl
theorem dX10_compareTo_2_0 : decode cX10_compareTo_2 0 = .ok (.aload_n 0, 1) := dk_42 (dk_at dksX10_compareTo_2_0 0 rfl rfl)
theorem dX10_compareTo_2_1 : decode cX10_compareTo_2 1 = .ok (.getfield 16, 3) := dk_180 0 16 (dk_at dksX10_compareTo_2_0 1 rfl rfl)
theorem dX10_compareTo_2_4 : decode cX10_compareTo_2 4 = .ok (.aload_n 1, 1) := dk_43 (dk_at dksX10_compareTo_2_0 4 rfl rfl)
theorem dX10_compareTo_2_5 : decode cX10_compareTo_2 5 = .ok (.getfield 16, 3) := dk_180 0 16 (dk_at dksX10_compareTo_2_0 5 rfl rfl)
theorem dX10_compareTo_2_8 : decode cX10_compareTo_2 8 = .ok (.if_icmp .eq 15, 3) := dk_159 0 15 (dk_at dksX10_compareTo_2_0 8 rfl rfl)
theorem dX10_compareTo_2_11 : decode cX10_compareTo_2 11 = .ok (.aload_n 0, 1) := dk_42 (dk_at dksX10_compareTo_2_0 11 rfl rfl)
theorem dX10_compareTo_2_12 : decode cX10_compareTo_2 12 = .ok (.getfield 16, 3) := dk_180 0 16 (dk_at dksX10_compareTo_2_0 12 rfl rfl)
theorem dX10_compareTo_2_15 : decode cX10_compareTo_2 15 = .ok (.aload_n 1, 1) := dk_43 (dk_at dksX10_compareTo_2_0 15 rfl rfl)
theorem dX10_compareTo_2_16 : decode cX10_compareTo_2 16 = .ok (.getfield 16, 3) := dk_180 0 16 (dk_at dksX10_compareTo_2_0 16 rfl rfl)
theorem dX10_compareTo_2_19 : decode cX10_compareTo_2 19 = .ok (.isub, 1) := dk_100 (dk_at dksX10_compareTo_2_0 19 rfl rfl)
theorem dX10_compareTo_2_20 : decode cX10_compareTo_2 20 = .ok (.goto 12, 3) := dk_167 0 12 (dk_at dksX10_compareTo_2_0 20 rfl rfl)
theorem dX10_compareTo_2_23 : decode cX10_compareTo_2 23 = .ok (.aload_n 0, 1) := dk_42 (dk_at dksX10_compareTo_2_0 23 rfl rfl)
theorem dX10_compareTo_2_24 : decode cX10_compareTo_2 24 = .ok (.getfield 7, 3) := dk_180 0 7 (dk_at dksX10_compareTo_2_1 0 rfl rfl)
theorem dX10_compareTo_2_27 : decode cX10_compareTo_2 27 = .ok (.aload_n 1, 1) := dk_43 (dk_at dksX10_compareTo_2_1 3 rfl rfl)
theorem dX10_compareTo_2_28 : decode cX10_compareTo_2 28 = .ok (.getfield 7, 3) := dk_180 0 7 (dk_at dksX10_compareTo_2_1 4 rfl rfl)
theorem dX10_compareTo_2_31 : decode cX10_compareTo_2 31 = .ok (.isub, 1) := dk_100 (dk_at dksX10_compareTo_2_1 7 rfl rfl)
theorem dX10_compareTo_2_32 : decode cX10_compareTo_2 32 = .ok (.ireturn, 1) := dk_172 (dk_at dksX10_compareTo_2_1 8 rfl rfl)
abbrev kX10_compareTo_2 : KX := (cX10_compareTo_2, "TissueBalloons$Plan", "compareTo", 2, some .int, [], 0)
abbrev cX10_init : ByteArray := prog_8_method_1_code
def yX10_init : MethodName := ⟨RX10, "<init>", "(III)V"⟩
def dkwX10_init_0 : List UInt8 := [42, 183, 0, 1, 42, 27, 181, 0, 7, 42, 28, 181, 0, 13, 42, 29, 181, 0, 16, 177]
abbrev dktX10_init_0 : List UInt8 := dkwX10_init_0 ++ []
theorem dksX10_init_0 : cX10_init.data.toList.drop 0 = dktX10_init_0 := by decide +kernel
theorem dX10_init_0 : decode cX10_init 0 = .ok (.aload_n 0, 1) := dk_42 (dk_at dksX10_init_0 0 rfl rfl)
theorem dX10_init_1 : decode cX10_init 1 = .ok (.invokespecial 1, 3) := dk_183 0 1 (dk_at dksX10_init_0 1 rfl rfl)
theorem dX10_init_4 : decode cX10_init 4 = .ok (.aload_n 0, 1) := dk_42 (dk_at dksX10_init_0 4 rfl rfl)
theorem dX10_init_5 : decode cX10_init 5 = .ok (.iload_n 1, 1) := dk_27 (dk_at dksX10_init_0 5 rfl rfl)
theorem dX10_init_6 : decode cX10_init 6 = .ok (.putfield 7, 3) := dk_181 0 7 (dk_at dksX10_init_0 6 rfl rfl)
theorem dX10_init_9 : decode cX10_init 9 = .ok (.aload_n 0, 1) := dk_42 (dk_at dksX10_init_0 9 rfl rfl)
theorem dX10_init_10 : decode cX10_init 10 = .ok (.iload_n 2, 1) := dk_28 (dk_at dksX10_init_0 10 rfl rfl)
theorem dX10_init_11 : decode cX10_init 11 = .ok (.putfield 13, 3) := dk_181 0 13 (dk_at dksX10_init_0 11 rfl rfl)
theorem dX10_init_14 : decode cX10_init 14 = .ok (.aload_n 0, 1) := dk_42 (dk_at dksX10_init_0 14 rfl rfl)
theorem dX10_init_15 : decode cX10_init 15 = .ok (.iload_n 3, 1) := dk_29 (dk_at dksX10_init_0 15 rfl rfl)
theorem dX10_init_16 : decode cX10_init 16 = .ok (.putfield 16, 3) := dk_181 0 16 (dk_at dksX10_init_0 16 rfl rfl)
theorem dX10_init_19 : decode cX10_init 19 = .ok (.return_, 1) := dk_177 (dk_at dksX10_init_0 19 rfl rfl)
abbrev kX10_init : KX := (cX10_init, "TissueBalloons$Plan", "<init>", 4, none, [], 1)
abbrev cX11_compare : ByteArray := prog_4_method_3_code
def yX11_compare : MethodName := ⟨RX11, "compare", "(Ljava/lang/Object;Ljava/lang/Object;)I"⟩
def dkwX11_compare_0 : List UInt8 := [42, 43, 192, 0, 8, 44, 192, 0, 8, 182, 0, 16, 172]
abbrev dktX11_compare_0 : List UInt8 := dkwX11_compare_0 ++ []
theorem dksX11_compare_0 : cX11_compare.data.toList.drop 0 = dktX11_compare_0 := by decide +kernel
theorem dX11_compare_0 : decode cX11_compare 0 = .ok (.aload_n 0, 1) := dk_42 (dk_at dksX11_compare_0 0 rfl rfl)
theorem dX11_compare_1 : decode cX11_compare 1 = .ok (.aload_n 1, 1) := dk_43 (dk_at dksX11_compare_0 1 rfl rfl)
theorem dX11_compare_2 : decode cX11_compare 2 = .ok (.checkcast 8, 3) := dk_192 0 8 (dk_at dksX11_compare_0 2 rfl rfl)
theorem dX11_compare_5 : decode cX11_compare 5 = .ok (.aload_n 2, 1) := dk_44 (dk_at dksX11_compare_0 5 rfl rfl)
theorem dX11_compare_6 : decode cX11_compare 6 = .ok (.checkcast 8, 3) := dk_192 0 8 (dk_at dksX11_compare_0 6 rfl rfl)
theorem dX11_compare_9 : decode cX11_compare 9 = .ok (.invokevirtual 16, 3) := dk_182 0 16 (dk_at dksX11_compare_0 9 rfl rfl)
theorem dX11_compare_12 : decode cX11_compare 12 = .ok (.ireturn, 1) := dk_172 (dk_at dksX11_compare_0 12 rfl rfl)
abbrev kX11_compare : KX := (cX11_compare, "TissueBalloons$ByLayer", "compare", 3, some .int, [], 1)
abbrev cX11_compare_2 : ByteArray := prog_4_method_2_code
def yX11_compare_2 : MethodName := ⟨RX11, "compare", "(LTissueBalloons$Balloon;LTissueBalloons$Balloon;)I"⟩
def dkwX11_compare_2_1 : List UInt8 := [180, 0, 13, 44, 180, 0, 13, 100, 172]
abbrev dktX11_compare_2_1 : List UInt8 := dkwX11_compare_2_1 ++ []
def dkwX11_compare_2_0 : List UInt8 := [43, 180, 0, 7, 44, 180, 0, 7, 159, 0, 15, 44, 180, 0, 7, 43, 180, 0, 7, 100, 167, 0, 12, 43]
abbrev dktX11_compare_2_0 : List UInt8 := dkwX11_compare_2_0 ++ dktX11_compare_2_1
theorem dksX11_compare_2_0 : cX11_compare_2.data.toList.drop 0 = dktX11_compare_2_0 := by decide +kernel
theorem dksX11_compare_2_1 : cX11_compare_2.data.toList.drop 24 = dktX11_compare_2_1 := dk_seg dksX11_compare_2_0 24 rfl rfl
theorem dX11_compare_2_0 : decode cX11_compare_2 0 = .ok (.aload_n 1, 1) := dk_43 (dk_at dksX11_compare_2_0 0 rfl rfl)
theorem dX11_compare_2_1 : decode cX11_compare_2 1 = .ok (.getfield 7, 3) := dk_180 0 7 (dk_at dksX11_compare_2_0 1 rfl rfl)
theorem dX11_compare_2_4 : decode cX11_compare_2 4 = .ok (.aload_n 2, 1) := dk_44 (dk_at dksX11_compare_2_0 4 rfl rfl)
theorem dX11_compare_2_5 : decode cX11_compare_2 5 = .ok (.getfield 7, 3) := dk_180 0 7 (dk_at dksX11_compare_2_0 5 rfl rfl)
theorem dX11_compare_2_8 : decode cX11_compare_2 8 = .ok (.if_icmp .eq 15, 3) := dk_159 0 15 (dk_at dksX11_compare_2_0 8 rfl rfl)
theorem dX11_compare_2_11 : decode cX11_compare_2 11 = .ok (.aload_n 2, 1) := dk_44 (dk_at dksX11_compare_2_0 11 rfl rfl)
theorem dX11_compare_2_12 : decode cX11_compare_2 12 = .ok (.getfield 7, 3) := dk_180 0 7 (dk_at dksX11_compare_2_0 12 rfl rfl)
theorem dX11_compare_2_15 : decode cX11_compare_2 15 = .ok (.aload_n 1, 1) := dk_43 (dk_at dksX11_compare_2_0 15 rfl rfl)
theorem dX11_compare_2_16 : decode cX11_compare_2 16 = .ok (.getfield 7, 3) := dk_180 0 7 (dk_at dksX11_compare_2_0 16 rfl rfl)
theorem dX11_compare_2_19 : decode cX11_compare_2 19 = .ok (.isub, 1) := dk_100 (dk_at dksX11_compare_2_0 19 rfl rfl)
theorem dX11_compare_2_20 : decode cX11_compare_2 20 = .ok (.goto 12, 3) := dk_167 0 12 (dk_at dksX11_compare_2_0 20 rfl rfl)
theorem dX11_compare_2_23 : decode cX11_compare_2 23 = .ok (.aload_n 1, 1) := dk_43 (dk_at dksX11_compare_2_0 23 rfl rfl)
theorem dX11_compare_2_24 : decode cX11_compare_2 24 = .ok (.getfield 13, 3) := dk_180 0 13 (dk_at dksX11_compare_2_1 0 rfl rfl)
theorem dX11_compare_2_27 : decode cX11_compare_2 27 = .ok (.aload_n 2, 1) := dk_44 (dk_at dksX11_compare_2_1 3 rfl rfl)
theorem dX11_compare_2_28 : decode cX11_compare_2 28 = .ok (.getfield 13, 3) := dk_180 0 13 (dk_at dksX11_compare_2_1 4 rfl rfl)
theorem dX11_compare_2_31 : decode cX11_compare_2 31 = .ok (.isub, 1) := dk_100 (dk_at dksX11_compare_2_1 7 rfl rfl)
theorem dX11_compare_2_32 : decode cX11_compare_2 32 = .ok (.ireturn, 1) := dk_172 (dk_at dksX11_compare_2_1 8 rfl rfl)
abbrev kX11_compare_2 : KX := (cX11_compare_2, "TissueBalloons$ByLayer", "compare", 3, some .int, [], 0)
abbrev cX11_init : ByteArray := prog_4_method_1_code
def yX11_init : MethodName := ⟨RX11, "<init>", "()V"⟩
theorem dX11_init_0 : decode cX11_init 0 = .ok (.aload_n 0, 1) := by decide +kernel
theorem dX11_init_1 : decode cX11_init 1 = .ok (.invokespecial 1, 3) := by decide +kernel
theorem dX11_init_4 : decode cX11_init 4 = .ok (.return_, 1) := by decide +kernel
abbrev kX11_init : KX := (cX11_init, "TissueBalloons$ByLayer", "<init>", 1, none, [], 1)
