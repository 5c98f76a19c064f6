set_option maxRecDepth 100000
abbrev cX2_init : ByteArray := prog_5_method_1_code
def yX2_init : MethodName := ⟨RX2, "<init>", "()V"⟩
def dkwX2_init_1 : List UInt8 := [42, 7, 181, 0, 24, 177]
abbrev dktX2_init_1 : List UInt8 := dkwX2_init_1 ++ []
def dkwX2_init_0 : List UInt8 := [42, 183, 0, 3, 42, 187, 0, 9, 89, 5, 183, 0, 11, 181, 0, 14, 42, 16, 17, 188, 11, 181, 0, 20]
abbrev dktX2_init_0 : List UInt8 := dkwX2_init_0 ++ dktX2_init_1
theorem dksX2_init_0 : cX2_init.data.toList.drop 0 = dktX2_init_0 := by decide +kernel
theorem dksX2_init_1 : cX2_init.data.toList.drop 24 = dktX2_init_1 := dk_seg dksX2_init_0 24 rfl rfl
theorem dX2_init_0 : decode cX2_init 0 = .ok (.aload_n 0, 1) := dk_42 (dk_at dksX2_init_0 0 rfl rfl)
theorem dX2_init_1 : decode cX2_init 1 = .ok (.invokespecial 3, 3) := dk_183 0 3 (dk_at dksX2_init_0 1 rfl rfl)
theorem dX2_init_4 : decode cX2_init 4 = .ok (.aload_n 0, 1) := dk_42 (dk_at dksX2_init_0 4 rfl rfl)
theorem dX2_init_5 : decode cX2_init 5 = .ok (.new 9, 3) := dk_187 0 9 (dk_at dksX2_init_0 5 rfl rfl)
theorem dX2_init_8 : decode cX2_init 8 = .ok (.dup, 1) := dk_89 (dk_at dksX2_init_0 8 rfl rfl)
theorem dX2_init_9 : decode cX2_init 9 = .ok (.iconst 2, 1) := dk_5 (dk_at dksX2_init_0 9 rfl rfl)
theorem dX2_init_10 : decode cX2_init 10 = .ok (.invokespecial 11, 3) := dk_183 0 11 (dk_at dksX2_init_0 10 rfl rfl)
theorem dX2_init_13 : decode cX2_init 13 = .ok (.putfield 14, 3) := dk_181 0 14 (dk_at dksX2_init_0 13 rfl rfl)
theorem dX2_init_16 : decode cX2_init 16 = .ok (.aload_n 0, 1) := dk_42 (dk_at dksX2_init_0 16 rfl rfl)
theorem dX2_init_17 : decode cX2_init 17 = .ok (.bipush 17, 2) := dk_16 17 (dk_at dksX2_init_0 17 rfl rfl)
theorem dX2_init_19 : decode cX2_init 19 = .ok (.newarray .long, 2) := dk_188_11 (dk_at dksX2_init_0 19 rfl rfl)
theorem dX2_init_21 : decode cX2_init 21 = .ok (.putfield 20, 3) := dk_181 0 20 (dk_at dksX2_init_0 21 rfl rfl)
theorem dX2_init_24 : decode cX2_init 24 = .ok (.aload_n 0, 1) := dk_42 (dk_at dksX2_init_1 0 rfl rfl)
theorem dX2_init_25 : decode cX2_init 25 = .ok (.iconst 4, 1) := dk_7 (dk_at dksX2_init_1 1 rfl rfl)
theorem dX2_init_26 : decode cX2_init 26 = .ok (.putfield 24, 3) := dk_181 0 24 (dk_at dksX2_init_1 2 rfl rfl)
theorem dX2_init_29 : decode cX2_init 29 = .ok (.return_, 1) := dk_177 (dk_at dksX2_init_1 5 rfl rfl)
abbrev cX2_left : ByteArray := prog_5_method_4_code
def yX2_left : MethodName := ⟨RX2, "left", "(I)J"⟩
def dkwX2_left_2 : List UInt8 := [182, 0, 41, 192, 0, 45, 180, 0, 50, 127, 65, 132, 4, 1, 167, 255, 204, 32, 173]
abbrev dktX2_left_2 : List UInt8 := dkwX2_left_2 ++ []
def dkwX2_left_1 : List UInt8 := [21, 4, 182, 0, 41, 192, 0, 45, 180, 0, 47, 27, 163, 0, 21, 32, 42, 180, 0, 14, 21, 4]
abbrev dktX2_left_1 : List UInt8 := dkwX2_left_1 ++ dktX2_left_2
def dkwX2_left_0 : List UInt8 := [42, 182, 0, 34, 65, 3, 54, 4, 21, 4, 42, 180, 0, 14, 182, 0, 38, 162, 0, 46, 42, 180, 0, 14]
abbrev dktX2_left_0 : List UInt8 := dkwX2_left_0 ++ dktX2_left_1
theorem dksX2_left_0 : cX2_left.data.toList.drop 0 = dktX2_left_0 := by decide +kernel
theorem dksX2_left_1 : cX2_left.data.toList.drop 24 = dktX2_left_1 := dk_seg dksX2_left_0 24 rfl rfl
theorem dksX2_left_2 : cX2_left.data.toList.drop 46 = dktX2_left_2 := dk_seg dksX2_left_1 22 rfl rfl
theorem dX2_left_0 : decode cX2_left 0 = .ok (.aload_n 0, 1) := dk_42 (dk_at dksX2_left_0 0 rfl rfl)
theorem dX2_left_1 : decode cX2_left 1 = .ok (.invokevirtual 34, 3) := dk_182 0 34 (dk_at dksX2_left_0 1 rfl rfl)
theorem dX2_left_4 : decode cX2_left 4 = .ok (.lstore_n 2, 1) := dk_65 (dk_at dksX2_left_0 4 rfl rfl)
theorem dX2_left_5 : decode cX2_left 5 = .ok (.iconst 0, 1) := dk_3 (dk_at dksX2_left_0 5 rfl rfl)
theorem dX2_left_6 : decode cX2_left 6 = .ok (.istore 4, 2) := dk_54 4 (dk_at dksX2_left_0 6 rfl rfl)
theorem dX2_left_8 : decode cX2_left 8 = .ok (.iload 4, 2) := dk_21 4 (dk_at dksX2_left_0 8 rfl rfl)
theorem dX2_left_10 : decode cX2_left 10 = .ok (.aload_n 0, 1) := dk_42 (dk_at dksX2_left_0 10 rfl rfl)
theorem dX2_left_11 : decode cX2_left 11 = .ok (.getfield 14, 3) := dk_180 0 14 (dk_at dksX2_left_0 11 rfl rfl)
theorem dX2_left_14 : decode cX2_left 14 = .ok (.invokevirtual 38, 3) := dk_182 0 38 (dk_at dksX2_left_0 14 rfl rfl)
theorem dX2_left_17 : decode cX2_left 17 = .ok (.if_icmp .ge 46, 3) := dk_162 0 46 (dk_at dksX2_left_0 17 rfl rfl)
theorem dX2_left_20 : decode cX2_left 20 = .ok (.aload_n 0, 1) := dk_42 (dk_at dksX2_left_0 20 rfl rfl)
theorem dX2_left_21 : decode cX2_left 21 = .ok (.getfield 14, 3) := dk_180 0 14 (dk_at dksX2_left_0 21 rfl rfl)
theorem dX2_left_24 : decode cX2_left 24 = .ok (.iload 4, 2) := dk_21 4 (dk_at dksX2_left_1 0 rfl rfl)
theorem dX2_left_26 : decode cX2_left 26 = .ok (.invokevirtual 41, 3) := dk_182 0 41 (dk_at dksX2_left_1 2 rfl rfl)
theorem dX2_left_29 : decode cX2_left 29 = .ok (.checkcast 45, 3) := dk_192 0 45 (dk_at dksX2_left_1 5 rfl rfl)
theorem dX2_left_32 : decode cX2_left 32 = .ok (.getfield 47, 3) := dk_180 0 47 (dk_at dksX2_left_1 8 rfl rfl)
theorem dX2_left_35 : decode cX2_left 35 = .ok (.iload_n 1, 1) := dk_27 (dk_at dksX2_left_1 11 rfl rfl)
theorem dX2_left_36 : decode cX2_left 36 = .ok (.if_icmp .gt 21, 3) := dk_163 0 21 (dk_at dksX2_left_1 12 rfl rfl)
theorem dX2_left_39 : decode cX2_left 39 = .ok (.lload_n 2, 1) := dk_32 (dk_at dksX2_left_1 15 rfl rfl)
theorem dX2_left_40 : decode cX2_left 40 = .ok (.aload_n 0, 1) := dk_42 (dk_at dksX2_left_1 16 rfl rfl)
theorem dX2_left_41 : decode cX2_left 41 = .ok (.getfield 14, 3) := dk_180 0 14 (dk_at dksX2_left_1 17 rfl rfl)
theorem dX2_left_44 : decode cX2_left 44 = .ok (.iload 4, 2) := dk_21 4 (dk_at dksX2_left_1 20 rfl rfl)
theorem dX2_left_46 : decode cX2_left 46 = .ok (.invokevirtual 41, 3) := dk_182 0 41 (dk_at dksX2_left_2 0 rfl rfl)
theorem dX2_left_49 : decode cX2_left 49 = .ok (.checkcast 45, 3) := dk_192 0 45 (dk_at dksX2_left_2 3 rfl rfl)
theorem dX2_left_52 : decode cX2_left 52 = .ok (.getfield 50, 3) := dk_180 0 50 (dk_at dksX2_left_2 6 rfl rfl)
theorem dX2_left_55 : decode cX2_left 55 = .ok (.land, 1) := dk_127 (dk_at dksX2_left_2 9 rfl rfl)
theorem dX2_left_56 : decode cX2_left 56 = .ok (.lstore_n 2, 1) := dk_65 (dk_at dksX2_left_2 10 rfl rfl)
theorem dX2_left_57 : decode cX2_left 57 = .ok (.iinc 4 1, 3) := dk_132 4 1 (dk_at dksX2_left_2 11 rfl rfl)
theorem dX2_left_60 : decode cX2_left 60 = .ok (.goto (-52), 3) := dk_167 255 204 (dk_at dksX2_left_2 14 rfl rfl)
theorem dX2_left_63 : decode cX2_left 63 = .ok (.lload_n 2, 1) := dk_32 (dk_at dksX2_left_2 17 rfl rfl)
theorem dX2_left_64 : decode cX2_left 64 = .ok (.lreturn, 1) := dk_173 (dk_at dksX2_left_2 18 rfl rfl)
abbrev cX2_all : ByteArray := prog_5_method_3_code
def yX2_all : MethodName := ⟨RX2, "all", "()J"⟩
def dkwX2_all_0 : List UInt8 := [42, 180, 0, 24, 16, 6, 160, 0, 9, 20, 0, 28, 167, 0, 11, 10, 42, 182, 0, 30, 121, 10, 101, 173]
abbrev dktX2_all_0 : List UInt8 := dkwX2_all_0 ++ []
theorem dksX2_all_0 : cX2_all.data.toList.drop 0 = dktX2_all_0 := by decide +kernel
theorem dX2_all_0 : decode cX2_all 0 = .ok (.aload_n 0, 1) := dk_42 (dk_at dksX2_all_0 0 rfl rfl)
theorem dX2_all_1 : decode cX2_all 1 = .ok (.getfield 24, 3) := dk_180 0 24 (dk_at dksX2_all_0 1 rfl rfl)
theorem dX2_all_4 : decode cX2_all 4 = .ok (.bipush 6, 2) := dk_16 6 (dk_at dksX2_all_0 4 rfl rfl)
theorem dX2_all_6 : decode cX2_all 6 = .ok (.if_icmp .ne 9, 3) := dk_160 0 9 (dk_at dksX2_all_0 6 rfl rfl)
theorem dX2_all_9 : decode cX2_all 9 = .ok (.ldc2_w 28, 3) := dk_20 0 28 (dk_at dksX2_all_0 9 rfl rfl)
theorem dX2_all_12 : decode cX2_all 12 = .ok (.goto 11, 3) := dk_167 0 11 (dk_at dksX2_all_0 12 rfl rfl)
theorem dX2_all_15 : decode cX2_all 15 = .ok (.lconst 1, 1) := dk_10 (dk_at dksX2_all_0 15 rfl rfl)
theorem dX2_all_16 : decode cX2_all 16 = .ok (.aload_n 0, 1) := dk_42 (dk_at dksX2_all_0 16 rfl rfl)
theorem dX2_all_17 : decode cX2_all 17 = .ok (.invokevirtual 30, 3) := dk_182 0 30 (dk_at dksX2_all_0 17 rfl rfl)
theorem dX2_all_20 : decode cX2_all 20 = .ok (.lshl, 1) := dk_121 (dk_at dksX2_all_0 20 rfl rfl)
theorem dX2_all_21 : decode cX2_all 21 = .ok (.lconst 1, 1) := dk_10 (dk_at dksX2_all_0 21 rfl rfl)
theorem dX2_all_22 : decode cX2_all 22 = .ok (.lsub, 1) := dk_101 (dk_at dksX2_all_0 22 rfl rfl)
theorem dX2_all_23 : decode cX2_all 23 = .ok (.lreturn, 1) := dk_173 (dk_at dksX2_all_0 23 rfl rfl)
abbrev cX2_worlds : ByteArray := prog_5_method_2_code
def yX2_worlds : MethodName := ⟨RX2, "worlds", "()I"⟩
def dkwX2_worlds_0 : List UInt8 := [4, 42, 180, 0, 24, 120, 172]
abbrev dktX2_worlds_0 : List UInt8 := dkwX2_worlds_0 ++ []
theorem dksX2_worlds_0 : cX2_worlds.data.toList.drop 0 = dktX2_worlds_0 := by decide +kernel
theorem dX2_worlds_0 : decode cX2_worlds 0 = .ok (.iconst 1, 1) := dk_4 (dk_at dksX2_worlds_0 0 rfl rfl)
theorem dX2_worlds_1 : decode cX2_worlds 1 = .ok (.aload_n 0, 1) := dk_42 (dk_at dksX2_worlds_0 1 rfl rfl)
theorem dX2_worlds_2 : decode cX2_worlds 2 = .ok (.getfield 24, 3) := dk_180 0 24 (dk_at dksX2_worlds_0 2 rfl rfl)
theorem dX2_worlds_5 : decode cX2_worlds 5 = .ok (.ishl, 1) := dk_120 (dk_at dksX2_worlds_0 5 rfl rfl)
theorem dX2_worlds_6 : decode cX2_worlds 6 = .ok (.ireturn, 1) := dk_172 (dk_at dksX2_worlds_0 6 rfl rfl)
abbrev cX2_models : ByteArray := prog_5_method_5_code
def yX2_models : MethodName := ⟨RX2, "models", "(I)J"⟩
def dkwX2_models_1 : List UInt8 := [32, 10, 21, 4, 121, 129, 65, 132, 4, 1, 167, 255, 227, 32, 173]
abbrev dktX2_models_1 : List UInt8 := dkwX2_models_1 ++ []
def dkwX2_models_0 : List UInt8 := [9, 65, 3, 54, 4, 21, 4, 42, 182, 0, 30, 162, 0, 26, 21, 4, 27, 122, 4, 126, 4, 160, 0, 10]
abbrev dktX2_models_0 : List UInt8 := dkwX2_models_0 ++ dktX2_models_1
theorem dksX2_models_0 : cX2_models.data.toList.drop 0 = dktX2_models_0 := by decide +kernel
theorem dksX2_models_1 : cX2_models.data.toList.drop 24 = dktX2_models_1 := dk_seg dksX2_models_0 24 rfl rfl
theorem dX2_models_0 : decode cX2_models 0 = .ok (.lconst 0, 1) := dk_9 (dk_at dksX2_models_0 0 rfl rfl)
theorem dX2_models_1 : decode cX2_models 1 = .ok (.lstore_n 2, 1) := dk_65 (dk_at dksX2_models_0 1 rfl rfl)
theorem dX2_models_2 : decode cX2_models 2 = .ok (.iconst 0, 1) := dk_3 (dk_at dksX2_models_0 2 rfl rfl)
theorem dX2_models_3 : decode cX2_models 3 = .ok (.istore 4, 2) := dk_54 4 (dk_at dksX2_models_0 3 rfl rfl)
theorem dX2_models_5 : decode cX2_models 5 = .ok (.iload 4, 2) := dk_21 4 (dk_at dksX2_models_0 5 rfl rfl)
theorem dX2_models_7 : decode cX2_models 7 = .ok (.aload_n 0, 1) := dk_42 (dk_at dksX2_models_0 7 rfl rfl)
theorem dX2_models_8 : decode cX2_models 8 = .ok (.invokevirtual 30, 3) := dk_182 0 30 (dk_at dksX2_models_0 8 rfl rfl)
theorem dX2_models_11 : decode cX2_models 11 = .ok (.if_icmp .ge 26, 3) := dk_162 0 26 (dk_at dksX2_models_0 11 rfl rfl)
theorem dX2_models_14 : decode cX2_models 14 = .ok (.iload 4, 2) := dk_21 4 (dk_at dksX2_models_0 14 rfl rfl)
theorem dX2_models_16 : decode cX2_models 16 = .ok (.iload_n 1, 1) := dk_27 (dk_at dksX2_models_0 16 rfl rfl)
theorem dX2_models_17 : decode cX2_models 17 = .ok (.ishr, 1) := dk_122 (dk_at dksX2_models_0 17 rfl rfl)
theorem dX2_models_18 : decode cX2_models 18 = .ok (.iconst 1, 1) := dk_4 (dk_at dksX2_models_0 18 rfl rfl)
theorem dX2_models_19 : decode cX2_models 19 = .ok (.iand, 1) := dk_126 (dk_at dksX2_models_0 19 rfl rfl)
theorem dX2_models_20 : decode cX2_models 20 = .ok (.iconst 1, 1) := dk_4 (dk_at dksX2_models_0 20 rfl rfl)
theorem dX2_models_21 : decode cX2_models 21 = .ok (.if_icmp .ne 10, 3) := dk_160 0 10 (dk_at dksX2_models_0 21 rfl rfl)
theorem dX2_models_24 : decode cX2_models 24 = .ok (.lload_n 2, 1) := dk_32 (dk_at dksX2_models_1 0 rfl rfl)
theorem dX2_models_25 : decode cX2_models 25 = .ok (.lconst 1, 1) := dk_10 (dk_at dksX2_models_1 1 rfl rfl)
theorem dX2_models_26 : decode cX2_models 26 = .ok (.iload 4, 2) := dk_21 4 (dk_at dksX2_models_1 2 rfl rfl)
theorem dX2_models_28 : decode cX2_models 28 = .ok (.lshl, 1) := dk_121 (dk_at dksX2_models_1 4 rfl rfl)
theorem dX2_models_29 : decode cX2_models 29 = .ok (.lor, 1) := dk_129 (dk_at dksX2_models_1 5 rfl rfl)
theorem dX2_models_30 : decode cX2_models 30 = .ok (.lstore_n 2, 1) := dk_65 (dk_at dksX2_models_1 6 rfl rfl)
theorem dX2_models_31 : decode cX2_models 31 = .ok (.iinc 4 1, 3) := dk_132 4 1 (dk_at dksX2_models_1 7 rfl rfl)
theorem dX2_models_34 : decode cX2_models 34 = .ok (.goto (-29), 3) := dk_167 255 227 (dk_at dksX2_models_1 10 rfl rfl)
theorem dX2_models_37 : decode cX2_models 37 = .ok (.lload_n 2, 1) := dk_32 (dk_at dksX2_models_1 13 rfl rfl)
theorem dX2_models_38 : decode cX2_models 38 = .ok (.lreturn, 1) := dk_173 (dk_at dksX2_models_1 14 rfl rfl)
theorem q126 : (Jvm.Cond.initialized "LotBeliefs$Jar") ∈ lw_all := lw_g (lw_at lw_m1 2 rfl) rfl
theorem q177 : (Jvm.Cond.instantiable "LotBeliefs$Jar" (8 : Nat)) ∈ lw_all := lw_g (lw_at lw_m1 53 rfl) rfl
theorem q179 : (Jvm.Cond.instanceMethod ({ cls := "LotBeliefs$Jar", name := "<init>", desc := "()V" } : Jvm.MethodName)) ∈ lw_all := lw_g (lw_at lw_m1 55 rfl) rfl
theorem q180 : (Jvm.Cond.code ({ cls := "LotBeliefs$Jar", name := "<init>", desc := "()V" } : Jvm.MethodName) prog_5_method_1_code (1 : Nat) (Option.none : Option Jvm.ClassFile.FieldType)) ∈ lw_all := lw_g (lw_at lw_m1 56 rfl) rfl
theorem q181 : (Jvm.Cond.methodLink "LotBeliefs$Jar" (3 : Nat) ({ cls := "java/lang/Object", name := "<init>", desc := "()V" } : Jvm.MethodName)) ∈ lw_all := lw_g (lw_at lw_m1 57 rfl) rfl
theorem q182 : (Jvm.Cond.classLink "LotBeliefs$Jar" (9 : Nat) "java/util/ArrayList") ∈ lw_all := lw_g (lw_at lw_m1 58 rfl) rfl
theorem q184 : (Jvm.Cond.methodLink "LotBeliefs$Jar" (11 : Nat) ({ cls := "java/util/ArrayList", name := "<init>", desc := "(I)V" } : Jvm.MethodName)) ∈ lw_all := lw_g (lw_at lw_m1 60 rfl) rfl
theorem q526 : (Jvm.Cond.fieldLink "LotBeliefs$Jar" (14 : Nat) "LotBeliefs$Jar" "seeings" "Ljava/util/ArrayList;") ∈ lw_all := lw_g (lw_at lw_m2 162 rfl) rfl
theorem q529 : (Jvm.Cond.fieldLink "LotBeliefs$Jar" (20 : Nat) "LotBeliefs$Jar" "models" "[J") ∈ lw_all := lw_g (lw_at lw_m2 165 rfl) rfl
theorem q533 : (Jvm.Cond.fieldLink "LotBeliefs$Jar" (24 : Nat) "LotBeliefs$Jar" "atoms" "I") ∈ lw_all := lw_g (lw_at lw_m2 169 rfl) rfl
theorem q545 : (Jvm.Cond.laysFinal "LotBeliefs$Jar" "LotBeliefs$Jar" "seeings" "Ljava/util/ArrayList;") ∈ lw_all := lw_g (lw_at lw_m2 181 rfl) rfl
theorem q546 : (Jvm.Cond.soleField "LotBeliefs$Jar" "seeings") ∈ lw_all := lw_g (lw_at lw_m2 182 rfl) rfl
theorem q547 : (Jvm.Cond.laysFinal "LotBeliefs$Jar" "LotBeliefs$Jar" "models" "[J") ∈ lw_all := lw_g (lw_at lw_m2 183 rfl) rfl
theorem q548 : (Jvm.Cond.soleField "LotBeliefs$Jar" "models") ∈ lw_all := lw_g (lw_at lw_m2 184 rfl) rfl
theorem q549 : (Jvm.Cond.lays "LotBeliefs$Jar" "LotBeliefs$Jar" "atoms" "I") ∈ lw_all := lw_g (lw_at lw_m2 185 rfl) rfl
theorem q550 : (Jvm.Cond.soleField "LotBeliefs$Jar" "atoms") ∈ lw_all := lw_g (lw_at lw_m2 186 rfl) rfl
theorem q551 : (Jvm.Cond.lays "LotBeliefs$Jar" "LotBeliefs$Jar" "slips" "I") ∈ lw_all := lw_g (lw_at lw_m2 187 rfl) rfl
theorem q552 : (Jvm.Cond.soleField "LotBeliefs$Jar" "slips") ∈ lw_all := lw_g (lw_at lw_m2 188 rfl) rfl
theorem q553 : (Jvm.Cond.lays "LotBeliefs$Jar" "LotBeliefs$Jar" "salts" "I") ∈ lw_all := lw_g (lw_at lw_m2 189 rfl) rfl
theorem q554 : (Jvm.Cond.soleField "LotBeliefs$Jar" "salts") ∈ lw_all := lw_g (lw_at lw_m2 190 rfl) rfl
theorem q555 : (Jvm.Cond.lays "LotBeliefs$Jar" "LotBeliefs$Jar" "world" "I") ∈ lw_all := lw_g (lw_at lw_m2 191 rfl) rfl
theorem q556 : (Jvm.Cond.soleField "LotBeliefs$Jar" "world") ∈ lw_all := lw_g (lw_at lw_m2 192 rfl) rfl
theorem q557 : (Jvm.Cond.lays "LotBeliefs$Jar" "LotBeliefs$Jar" "law" "I") ∈ lw_all := lw_g (lw_at lw_m2 193 rfl) rfl
theorem q558 : (Jvm.Cond.soleField "LotBeliefs$Jar" "law") ∈ lw_all := lw_g (lw_at lw_m2 194 rfl) rfl
theorem q559 : (Jvm.Cond.lays "LotBeliefs$Jar" "LotBeliefs$Jar" "clauses" "I") ∈ lw_all := lw_g (lw_at lw_m2 195 rfl) rfl
theorem q560 : (Jvm.Cond.soleField "LotBeliefs$Jar" "clauses") ∈ lw_all := lw_g (lw_at lw_m2 196 rfl) rfl
theorem q561 : (Jvm.Cond.superclass "LotBeliefs$Jar" "java/lang/Object") ∈ lw_all := lw_g (lw_at lw_m2 197 rfl) rfl
theorem q662 : (Jvm.Cond.instanceMethod ({ cls := "LotBeliefs$Jar", name := "left", desc := "(I)J" } : Jvm.MethodName)) ∈ lw_all := lw_g (lw_at lw_m3 58 rfl) rfl
theorem q663 : (Jvm.Cond.selects "LotBeliefs$Jar" ({ cls := "LotBeliefs$Jar", name := "left", desc := "(I)J" } : Jvm.MethodName) ({ cls := "LotBeliefs$Jar", name := "left", desc := "(I)J" } : Jvm.MethodName)) ∈ lw_all := lw_g (lw_at lw_m3 59 rfl) rfl
theorem q664 : (Jvm.Cond.code ({ cls := "LotBeliefs$Jar", name := "left", desc := "(I)J" } : Jvm.MethodName) prog_5_method_4_code (5 : Nat) (Option.some Jvm.ClassFile.FieldType.long)) ∈ lw_all := lw_g (lw_at lw_m3 60 rfl) rfl
theorem q665 : (Jvm.Cond.methodLink "LotBeliefs$Jar" (34 : Nat) ({ cls := "LotBeliefs$Jar", name := "all", desc := "()J" } : Jvm.MethodName)) ∈ lw_all := lw_g (lw_at lw_m3 61 rfl) rfl
theorem q666 : (Jvm.Cond.instanceMethod ({ cls := "LotBeliefs$Jar", name := "all", desc := "()J" } : Jvm.MethodName)) ∈ lw_all := lw_g (lw_at lw_m3 62 rfl) rfl
theorem q667 : (Jvm.Cond.selects "LotBeliefs$Jar" ({ cls := "LotBeliefs$Jar", name := "all", desc := "()J" } : Jvm.MethodName) ({ cls := "LotBeliefs$Jar", name := "all", desc := "()J" } : Jvm.MethodName)) ∈ lw_all := lw_g (lw_at lw_m3 63 rfl) rfl
theorem q668 : (Jvm.Cond.code ({ cls := "LotBeliefs$Jar", name := "all", desc := "()J" } : Jvm.MethodName) prog_5_method_3_code (1 : Nat) (Option.some Jvm.ClassFile.FieldType.long)) ∈ lw_all := lw_g (lw_at lw_m3 64 rfl) rfl
theorem q669 : (Jvm.Cond.constantLong "LotBeliefs$Jar" (28 : Nat) (-1 : Int64)) ∈ lw_all := lw_g (lw_at lw_m3 65 rfl) rfl
theorem q670 : (Jvm.Cond.methodLink "LotBeliefs$Jar" (30 : Nat) ({ cls := "LotBeliefs$Jar", name := "worlds", desc := "()I" } : Jvm.MethodName)) ∈ lw_all := lw_g (lw_at lw_m3 66 rfl) rfl
theorem q671 : (Jvm.Cond.instanceMethod ({ cls := "LotBeliefs$Jar", name := "worlds", desc := "()I" } : Jvm.MethodName)) ∈ lw_all := lw_g (lw_at lw_m3 67 rfl) rfl
theorem q672 : (Jvm.Cond.selects "LotBeliefs$Jar" ({ cls := "LotBeliefs$Jar", name := "worlds", desc := "()I" } : Jvm.MethodName) ({ cls := "LotBeliefs$Jar", name := "worlds", desc := "()I" } : Jvm.MethodName)) ∈ lw_all := lw_g (lw_at lw_m3 68 rfl) rfl
theorem q673 : (Jvm.Cond.code ({ cls := "LotBeliefs$Jar", name := "worlds", desc := "()I" } : Jvm.MethodName) prog_5_method_2_code (1 : Nat) (Option.some Jvm.ClassFile.FieldType.int)) ∈ lw_all := lw_g (lw_at lw_m3 69 rfl) rfl
theorem q674 : (Jvm.Cond.methodLink "LotBeliefs$Jar" (38 : Nat) ({ cls := "java/util/ArrayList", name := "size", desc := "()I" } : Jvm.MethodName)) ∈ lw_all := lw_g (lw_at lw_m3 70 rfl) rfl
theorem q678 : (Jvm.Cond.methodLink "LotBeliefs$Jar" (41 : Nat) ({ cls := "java/util/ArrayList", name := "get", desc := "(I)Ljava/lang/Object;" } : Jvm.MethodName)) ∈ lw_all := lw_g (lw_at lw_m3 74 rfl) rfl
theorem q692 : (Jvm.Cond.classLink "LotBeliefs$Jar" (45 : Nat) "LotBeliefs$Seeing") ∈ lw_all := lw_g (lw_at lw_m3 88 rfl) rfl
theorem q1238 : (Jvm.Cond.instanceMethod ({ cls := "LotBeliefs$Jar", name := "models", desc := "(I)J" } : Jvm.MethodName)) ∈ lw_all := lw_g (lw_at lw_m5 154 rfl) rfl
theorem q1239 : (Jvm.Cond.selects "LotBeliefs$Jar" ({ cls := "LotBeliefs$Jar", name := "models", desc := "(I)J" } : Jvm.MethodName) ({ cls := "LotBeliefs$Jar", name := "models", desc := "(I)J" } : Jvm.MethodName)) ∈ lw_all := lw_g (lw_at lw_m5 155 rfl) rfl
theorem q1240 : (Jvm.Cond.code ({ cls := "LotBeliefs$Jar", name := "models", desc := "(I)J" } : Jvm.MethodName) prog_5_method_5_code (5 : Nat) (Option.some Jvm.ClassFile.FieldType.long)) ∈ lw_all := lw_g (lw_at lw_m5 156 rfl) rfl
theorem q1250 : (Jvm.Cond.fieldLinkNest "LotBeliefs$Jar" (47 : Nat) "LotBeliefs$Seeing" "week" "I" "LotBeliefs") ∈ lw_tbl := lw_at lw_m5 166 rfl
theorem q1253 : (Jvm.Cond.fieldLinkNest "LotBeliefs$Jar" (50 : Nat) "LotBeliefs$Seeing" "models" "J" "LotBeliefs") ∈ lw_tbl := lw_at lw_m5 169 rfl
theorem q1288 : (Jvm.Cond.selects "LotBeliefs$Jar" ({ cls := "java/lang/Object", name := "getClass", desc := "()Ljava/lang/Class;" } : Jvm.MethodName) ({ cls := "java/lang/Object", name := "getClass", desc := "()Ljava/lang/Class;" } : Jvm.MethodName)) ∈ lw_all := lw_g (lw_at lw_m5 204 rfl) rfl
theorem q2710 : (Jvm.Cond.castable "LotBeliefs$Jar" "java/lang/Object") ∈ lw_tbl := lw_at lw_m11 186 rfl

abbrev cX3_init : ByteArray := prog_15_method_1_code
def yX3_init : MethodName := ⟨RX3, "<init>", "()V"⟩
def dkwX3_init_1 : List UInt8 := [177]
abbrev dktX3_init_1 : List UInt8 := dkwX3_init_1 ++ []
def dkwX3_init_0 : List UInt8 := [42, 183, 0, 3, 42, 187, 0, 9, 89, 4, 183, 0, 11, 181, 0, 14, 42, 16, 10, 188, 10, 181, 0, 20]
abbrev dktX3_init_0 : List UInt8 := dkwX3_init_0 ++ dktX3_init_1
theorem dksX3_init_0 : cX3_init.data.toList.drop 0 = dktX3_init_0 := by decide +kernel
theorem dksX3_init_1 : cX3_init.data.toList.drop 24 = dktX3_init_1 := dk_seg dksX3_init_0 24 rfl rfl
theorem dX3_init_0 : decode cX3_init 0 = .ok (.aload_n 0, 1) := dk_42 (dk_at dksX3_init_0 0 rfl rfl)
theorem dX3_init_1 : decode cX3_init 1 = .ok (.invokespecial 3, 3) := dk_183 0 3 (dk_at dksX3_init_0 1 rfl rfl)
theorem dX3_init_4 : decode cX3_init 4 = .ok (.aload_n 0, 1) := dk_42 (dk_at dksX3_init_0 4 rfl rfl)
theorem dX3_init_5 : decode cX3_init 5 = .ok (.new 9, 3) := dk_187 0 9 (dk_at dksX3_init_0 5 rfl rfl)
theorem dX3_init_8 : decode cX3_init 8 = .ok (.dup, 1) := dk_89 (dk_at dksX3_init_0 8 rfl rfl)
theorem dX3_init_9 : decode cX3_init 9 = .ok (.iconst 1, 1) := dk_4 (dk_at dksX3_init_0 9 rfl rfl)
theorem dX3_init_10 : decode cX3_init 10 = .ok (.invokespecial 11, 3) := dk_183 0 11 (dk_at dksX3_init_0 10 rfl rfl)
theorem dX3_init_13 : decode cX3_init 13 = .ok (.putfield 14, 3) := dk_181 0 14 (dk_at dksX3_init_0 13 rfl rfl)
theorem dX3_init_16 : decode cX3_init 16 = .ok (.aload_n 0, 1) := dk_42 (dk_at dksX3_init_0 16 rfl rfl)
theorem dX3_init_17 : decode cX3_init 17 = .ok (.bipush 10, 2) := dk_16 10 (dk_at dksX3_init_0 17 rfl rfl)
theorem dX3_init_19 : decode cX3_init 19 = .ok (.newarray .int, 2) := dk_188_10 (dk_at dksX3_init_0 19 rfl rfl)
theorem dX3_init_21 : decode cX3_init 21 = .ok (.putfield 20, 3) := dk_181 0 20 (dk_at dksX3_init_0 21 rfl rfl)
theorem dX3_init_24 : decode cX3_init 24 = .ok (.return_, 1) := dk_177 (dk_at dksX3_init_1 0 rfl rfl)
abbrev cX3_falls : ByteArray := prog_15_method_2_code
def yX3_falls : MethodName := ⟨RX3, "falls", "([I)I"⟩
def dkwX3_falls_1 : List UInt8 := [43, 182, 0, 34, 153, 0, 10, 42, 180, 0, 20, 28, 46, 172, 132, 2, 1, 167, 255, 217, 3, 172]
abbrev dktX3_falls_1 : List UInt8 := dkwX3_falls_1 ++ []
def dkwX3_falls_0 : List UInt8 := [3, 61, 28, 42, 180, 0, 14, 182, 0, 24, 162, 0, 34, 42, 180, 0, 14, 28, 182, 0, 28, 192, 0, 32]
abbrev dktX3_falls_0 : List UInt8 := dkwX3_falls_0 ++ dktX3_falls_1
theorem dksX3_falls_0 : cX3_falls.data.toList.drop 0 = dktX3_falls_0 := by decide +kernel
theorem dksX3_falls_1 : cX3_falls.data.toList.drop 24 = dktX3_falls_1 := dk_seg dksX3_falls_0 24 rfl rfl
theorem dX3_falls_0 : decode cX3_falls 0 = .ok (.iconst 0, 1) := dk_3 (dk_at dksX3_falls_0 0 rfl rfl)
theorem dX3_falls_1 : decode cX3_falls 1 = .ok (.istore_n 2, 1) := dk_61 (dk_at dksX3_falls_0 1 rfl rfl)
theorem dX3_falls_2 : decode cX3_falls 2 = .ok (.iload_n 2, 1) := dk_28 (dk_at dksX3_falls_0 2 rfl rfl)
theorem dX3_falls_3 : decode cX3_falls 3 = .ok (.aload_n 0, 1) := dk_42 (dk_at dksX3_falls_0 3 rfl rfl)
theorem dX3_falls_4 : decode cX3_falls 4 = .ok (.getfield 14, 3) := dk_180 0 14 (dk_at dksX3_falls_0 4 rfl rfl)
theorem dX3_falls_7 : decode cX3_falls 7 = .ok (.invokevirtual 24, 3) := dk_182 0 24 (dk_at dksX3_falls_0 7 rfl rfl)
theorem dX3_falls_10 : decode cX3_falls 10 = .ok (.if_icmp .ge 34, 3) := dk_162 0 34 (dk_at dksX3_falls_0 10 rfl rfl)
theorem dX3_falls_13 : decode cX3_falls 13 = .ok (.aload_n 0, 1) := dk_42 (dk_at dksX3_falls_0 13 rfl rfl)
theorem dX3_falls_14 : decode cX3_falls 14 = .ok (.getfield 14, 3) := dk_180 0 14 (dk_at dksX3_falls_0 14 rfl rfl)
theorem dX3_falls_17 : decode cX3_falls 17 = .ok (.iload_n 2, 1) := dk_28 (dk_at dksX3_falls_0 17 rfl rfl)
theorem dX3_falls_18 : decode cX3_falls 18 = .ok (.invokevirtual 28, 3) := dk_182 0 28 (dk_at dksX3_falls_0 18 rfl rfl)
theorem dX3_falls_21 : decode cX3_falls 21 = .ok (.checkcast 32, 3) := dk_192 0 32 (dk_at dksX3_falls_0 21 rfl rfl)
theorem dX3_falls_24 : decode cX3_falls 24 = .ok (.aload_n 1, 1) := dk_43 (dk_at dksX3_falls_1 0 rfl rfl)
theorem dX3_falls_25 : decode cX3_falls 25 = .ok (.invokevirtual 34, 3) := dk_182 0 34 (dk_at dksX3_falls_1 1 rfl rfl)
theorem dX3_falls_28 : decode cX3_falls 28 = .ok (.ifCond .eq 10, 3) := dk_153 0 10 (dk_at dksX3_falls_1 4 rfl rfl)
theorem dX3_falls_31 : decode cX3_falls 31 = .ok (.aload_n 0, 1) := dk_42 (dk_at dksX3_falls_1 7 rfl rfl)
theorem dX3_falls_32 : decode cX3_falls 32 = .ok (.getfield 20, 3) := dk_180 0 20 (dk_at dksX3_falls_1 8 rfl rfl)
theorem dX3_falls_35 : decode cX3_falls 35 = .ok (.iload_n 2, 1) := dk_28 (dk_at dksX3_falls_1 11 rfl rfl)
theorem dX3_falls_36 : decode cX3_falls 36 = .ok (.iaload, 1) := dk_46 (dk_at dksX3_falls_1 12 rfl rfl)
theorem dX3_falls_37 : decode cX3_falls 37 = .ok (.ireturn, 1) := dk_172 (dk_at dksX3_falls_1 13 rfl rfl)
theorem dX3_falls_38 : decode cX3_falls 38 = .ok (.iinc 2 1, 3) := dk_132 2 1 (dk_at dksX3_falls_1 14 rfl rfl)
theorem dX3_falls_41 : decode cX3_falls 41 = .ok (.goto (-39), 3) := dk_167 255 217 (dk_at dksX3_falls_1 17 rfl rfl)
theorem dX3_falls_44 : decode cX3_falls 44 = .ok (.iconst 0, 1) := dk_3 (dk_at dksX3_falls_1 20 rfl rfl)
theorem dX3_falls_45 : decode cX3_falls 45 = .ok (.ireturn, 1) := dk_172 (dk_at dksX3_falls_1 21 rfl rfl)
theorem q146 : (Jvm.Cond.initialized "LotBeliefs$Tongue") ∈ lw_all := lw_g (lw_at lw_m1 22 rfl) rfl
theorem q564 : (Jvm.Cond.instantiable "LotBeliefs$Tongue" (2 : Nat)) ∈ lw_all := lw_g (lw_at lw_m2 200 rfl) rfl
theorem q566 : (Jvm.Cond.instanceMethod ({ cls := "LotBeliefs$Tongue", name := "<init>", desc := "()V" } : Jvm.MethodName)) ∈ lw_all := lw_g (lw_at lw_m2 202 rfl) rfl
theorem q567 : (Jvm.Cond.code ({ cls := "LotBeliefs$Tongue", name := "<init>", desc := "()V" } : Jvm.MethodName) prog_15_method_1_code (1 : Nat) (Option.none : Option Jvm.ClassFile.FieldType)) ∈ lw_all := lw_g (lw_at lw_m2 203 rfl) rfl
theorem q568 : (Jvm.Cond.methodLink "LotBeliefs$Tongue" (3 : Nat) ({ cls := "java/lang/Object", name := "<init>", desc := "()V" } : Jvm.MethodName)) ∈ lw_all := lw_g (lw_at lw_m2 204 rfl) rfl
theorem q569 : (Jvm.Cond.classLink "LotBeliefs$Tongue" (9 : Nat) "java/util/ArrayList") ∈ lw_all := lw_g (lw_at lw_m2 205 rfl) rfl
theorem q570 : (Jvm.Cond.methodLink "LotBeliefs$Tongue" (11 : Nat) ({ cls := "java/util/ArrayList", name := "<init>", desc := "(I)V" } : Jvm.MethodName)) ∈ lw_all := lw_g (lw_at lw_m2 206 rfl) rfl
theorem q571 : (Jvm.Cond.fieldLink "LotBeliefs$Tongue" (14 : Nat) "LotBeliefs$Tongue" "grounds" "Ljava/util/ArrayList;") ∈ lw_all := lw_g (lw_at lw_m2 207 rfl) rfl
theorem q574 : (Jvm.Cond.fieldLink "LotBeliefs$Tongue" (20 : Nat) "LotBeliefs$Tongue" "who" "[I") ∈ lw_all := lw_g (lw_at lw_m2 210 rfl) rfl
theorem q576 : (Jvm.Cond.laysFinal "LotBeliefs$Tongue" "LotBeliefs$Tongue" "grounds" "Ljava/util/ArrayList;") ∈ lw_all := lw_g (lw_at lw_m2 212 rfl) rfl
theorem q577 : (Jvm.Cond.soleField "LotBeliefs$Tongue" "grounds") ∈ lw_all := lw_g (lw_at lw_m2 213 rfl) rfl
theorem q578 : (Jvm.Cond.laysFinal "LotBeliefs$Tongue" "LotBeliefs$Tongue" "who" "[I") ∈ lw_all := lw_g (lw_at lw_m2 214 rfl) rfl
theorem q579 : (Jvm.Cond.soleField "LotBeliefs$Tongue" "who") ∈ lw_all := lw_g (lw_at lw_m2 215 rfl) rfl
theorem q580 : (Jvm.Cond.superclass "LotBeliefs$Tongue" "java/lang/Object") ∈ lw_all := lw_g (lw_at lw_m2 216 rfl) rfl
theorem q872 : (Jvm.Cond.instanceMethod ({ cls := "LotBeliefs$Tongue", name := "falls", desc := "([I)I" } : Jvm.MethodName)) ∈ lw_all := lw_g (lw_at lw_m4 28 rfl) rfl
theorem q873 : (Jvm.Cond.selects "LotBeliefs$Tongue" ({ cls := "LotBeliefs$Tongue", name := "falls", desc := "([I)I" } : Jvm.MethodName) ({ cls := "LotBeliefs$Tongue", name := "falls", desc := "([I)I" } : Jvm.MethodName)) ∈ lw_all := lw_g (lw_at lw_m4 29 rfl) rfl
theorem q874 : (Jvm.Cond.code ({ cls := "LotBeliefs$Tongue", name := "falls", desc := "([I)I" } : Jvm.MethodName) prog_15_method_2_code (3 : Nat) (Option.some Jvm.ClassFile.FieldType.int)) ∈ lw_all := lw_g (lw_at lw_m4 30 rfl) rfl
theorem q875 : (Jvm.Cond.methodLink "LotBeliefs$Tongue" (24 : Nat) ({ cls := "java/util/ArrayList", name := "size", desc := "()I" } : Jvm.MethodName)) ∈ lw_all := lw_g (lw_at lw_m4 31 rfl) rfl
theorem q876 : (Jvm.Cond.methodLink "LotBeliefs$Tongue" (28 : Nat) ({ cls := "java/util/ArrayList", name := "get", desc := "(I)Ljava/lang/Object;" } : Jvm.MethodName)) ∈ lw_all := lw_g (lw_at lw_m4 32 rfl) rfl
theorem q877 : (Jvm.Cond.classLink "LotBeliefs$Tongue" (32 : Nat) "LotBeliefs$Ground") ∈ lw_all := lw_g (lw_at lw_m4 33 rfl) rfl
theorem q878 : (Jvm.Cond.methodLink "LotBeliefs$Tongue" (34 : Nat) ({ cls := "LotBeliefs$Ground", name := "isSo", desc := "([I)Z" } : Jvm.MethodName)) ∈ lw_all := lw_g (lw_at lw_m4 34 rfl) rfl
theorem q1297 : (Jvm.Cond.selects "LotBeliefs$Tongue" ({ cls := "java/lang/Object", name := "getClass", desc := "()Ljava/lang/Class;" } : Jvm.MethodName) ({ cls := "java/lang/Object", name := "getClass", desc := "()Ljava/lang/Class;" } : Jvm.MethodName)) ∈ lw_all := lw_g (lw_at lw_m5 213 rfl) rfl
theorem q2715 : (Jvm.Cond.castable "LotBeliefs$Tongue" "java/lang/Object") ∈ lw_tbl := lw_at lw_m11 191 rfl

abbrev cX4_init : ByteArray := prog_13_method_1_code
def yX4_init : MethodName := ⟨RX4, "<init>", "()V"⟩
def dkwX4_init_0 : List UInt8 := [42, 183, 0, 3, 42, 16, 12, 188, 10, 181, 0, 9, 177]
abbrev dktX4_init_0 : List UInt8 := dkwX4_init_0 ++ []
theorem dksX4_init_0 : cX4_init.data.toList.drop 0 = dktX4_init_0 := by decide +kernel
theorem dX4_init_0 : decode cX4_init 0 = .ok (.aload_n 0, 1) := dk_42 (dk_at dksX4_init_0 0 rfl rfl)
theorem dX4_init_1 : decode cX4_init 1 = .ok (.invokespecial 3, 3) := dk_183 0 3 (dk_at dksX4_init_0 1 rfl rfl)
theorem dX4_init_4 : decode cX4_init 4 = .ok (.aload_n 0, 1) := dk_42 (dk_at dksX4_init_0 4 rfl rfl)
theorem dX4_init_5 : decode cX4_init 5 = .ok (.bipush 12, 2) := dk_16 12 (dk_at dksX4_init_0 5 rfl rfl)
theorem dX4_init_7 : decode cX4_init 7 = .ok (.newarray .int, 2) := dk_188_10 (dk_at dksX4_init_0 7 rfl rfl)
theorem dX4_init_9 : decode cX4_init 9 = .ok (.putfield 9, 3) := dk_181 0 9 (dk_at dksX4_init_0 9 rfl rfl)
theorem dX4_init_12 : decode cX4_init 12 = .ok (.return_, 1) := dk_177 (dk_at dksX4_init_0 12 rfl rfl)
abbrev cX4_become : ByteArray := prog_13_method_2_code
def yX4_become : MethodName := ⟨RX4, "become", "(LLotBeliefs$State;)V"⟩
def dkwX4_become_1 : List UInt8 := [43, 180, 0, 25, 181, 0, 25, 177]
abbrev dktX4_become_1 : List UInt8 := dkwX4_become_1 ++ []
def dkwX4_become_0 : List UInt8 := [43, 180, 0, 9, 3, 42, 180, 0, 9, 3, 16, 12, 184, 0, 15, 42, 43, 180, 0, 21, 181, 0, 21, 42]
abbrev dktX4_become_0 : List UInt8 := dkwX4_become_0 ++ dktX4_become_1
theorem dksX4_become_0 : cX4_become.data.toList.drop 0 = dktX4_become_0 := by decide +kernel
theorem dksX4_become_1 : cX4_become.data.toList.drop 24 = dktX4_become_1 := dk_seg dksX4_become_0 24 rfl rfl
theorem dX4_become_0 : decode cX4_become 0 = .ok (.aload_n 1, 1) := dk_43 (dk_at dksX4_become_0 0 rfl rfl)
theorem dX4_become_1 : decode cX4_become 1 = .ok (.getfield 9, 3) := dk_180 0 9 (dk_at dksX4_become_0 1 rfl rfl)
theorem dX4_become_4 : decode cX4_become 4 = .ok (.iconst 0, 1) := dk_3 (dk_at dksX4_become_0 4 rfl rfl)
theorem dX4_become_5 : decode cX4_become 5 = .ok (.aload_n 0, 1) := dk_42 (dk_at dksX4_become_0 5 rfl rfl)
theorem dX4_become_6 : decode cX4_become 6 = .ok (.getfield 9, 3) := dk_180 0 9 (dk_at dksX4_become_0 6 rfl rfl)
theorem dX4_become_9 : decode cX4_become 9 = .ok (.iconst 0, 1) := dk_3 (dk_at dksX4_become_0 9 rfl rfl)
theorem dX4_become_10 : decode cX4_become 10 = .ok (.bipush 12, 2) := dk_16 12 (dk_at dksX4_become_0 10 rfl rfl)
theorem dX4_become_12 : decode cX4_become 12 = .ok (.invokestatic 15, 3) := dk_184 0 15 (dk_at dksX4_become_0 12 rfl rfl)
theorem dX4_become_15 : decode cX4_become 15 = .ok (.aload_n 0, 1) := dk_42 (dk_at dksX4_become_0 15 rfl rfl)
theorem dX4_become_16 : decode cX4_become 16 = .ok (.aload_n 1, 1) := dk_43 (dk_at dksX4_become_0 16 rfl rfl)
theorem dX4_become_17 : decode cX4_become 17 = .ok (.getfield 21, 3) := dk_180 0 21 (dk_at dksX4_become_0 17 rfl rfl)
theorem dX4_become_20 : decode cX4_become 20 = .ok (.putfield 21, 3) := dk_181 0 21 (dk_at dksX4_become_0 20 rfl rfl)
theorem dX4_become_23 : decode cX4_become 23 = .ok (.aload_n 0, 1) := dk_42 (dk_at dksX4_become_0 23 rfl rfl)
theorem dX4_become_24 : decode cX4_become 24 = .ok (.aload_n 1, 1) := dk_43 (dk_at dksX4_become_1 0 rfl rfl)
theorem dX4_become_25 : decode cX4_become 25 = .ok (.getfield 25, 3) := dk_180 0 25 (dk_at dksX4_become_1 1 rfl rfl)
theorem dX4_become_28 : decode cX4_become 28 = .ok (.putfield 25, 3) := dk_181 0 25 (dk_at dksX4_become_1 4 rfl rfl)
theorem dX4_become_31 : decode cX4_become 31 = .ok (.return_, 1) := dk_177 (dk_at dksX4_become_1 7 rfl rfl)
theorem q147 : (Jvm.Cond.initialized "LotBeliefs$State") ∈ lw_all := lw_g (lw_at lw_m1 23 rfl) rfl
theorem q584 : (Jvm.Cond.instantiable "LotBeliefs$State" (3 : Nat)) ∈ lw_all := lw_g (lw_at lw_m2 220 rfl) rfl
theorem q586 : (Jvm.Cond.instanceMethod ({ cls := "LotBeliefs$State", name := "<init>", desc := "()V" } : Jvm.MethodName)) ∈ lw_all := lw_g (lw_at lw_m2 222 rfl) rfl
theorem q587 : (Jvm.Cond.code ({ cls := "LotBeliefs$State", name := "<init>", desc := "()V" } : Jvm.MethodName) prog_13_method_1_code (1 : Nat) (Option.none : Option Jvm.ClassFile.FieldType)) ∈ lw_all := lw_g (lw_at lw_m2 223 rfl) rfl
theorem q588 : (Jvm.Cond.methodLink "LotBeliefs$State" (3 : Nat) ({ cls := "java/lang/Object", name := "<init>", desc := "()V" } : Jvm.MethodName)) ∈ lw_all := lw_g (lw_at lw_m2 224 rfl) rfl
theorem q589 : (Jvm.Cond.fieldLink "LotBeliefs$State" (9 : Nat) "LotBeliefs$State" "order" "[I") ∈ lw_all := lw_g (lw_at lw_m2 225 rfl) rfl
theorem q591 : (Jvm.Cond.fieldLink "LotBeliefs$State" (21 : Nat) "LotBeliefs$State" "law" "I") ∈ lw_all := lw_g (lw_at lw_m2 227 rfl) rfl
theorem q593 : (Jvm.Cond.fieldLink "LotBeliefs$State" (25 : Nat) "LotBeliefs$State" "world" "I") ∈ lw_all := lw_g (lw_at lw_m2 229 rfl) rfl
theorem q595 : (Jvm.Cond.laysFinal "LotBeliefs$State" "LotBeliefs$State" "order" "[I") ∈ lw_all := lw_g (lw_at lw_m2 231 rfl) rfl
theorem q596 : (Jvm.Cond.soleField "LotBeliefs$State" "order") ∈ lw_all := lw_g (lw_at lw_m2 232 rfl) rfl
theorem q597 : (Jvm.Cond.lays "LotBeliefs$State" "LotBeliefs$State" "law" "I") ∈ lw_all := lw_g (lw_at lw_m2 233 rfl) rfl
theorem q598 : (Jvm.Cond.soleField "LotBeliefs$State" "law") ∈ lw_all := lw_g (lw_at lw_m2 234 rfl) rfl
theorem q599 : (Jvm.Cond.lays "LotBeliefs$State" "LotBeliefs$State" "world" "I") ∈ lw_all := lw_g (lw_at lw_m2 235 rfl) rfl
theorem q600 : (Jvm.Cond.soleField "LotBeliefs$State" "world") ∈ lw_all := lw_g (lw_at lw_m2 236 rfl) rfl
theorem q601 : (Jvm.Cond.superclass "LotBeliefs$State" "java/lang/Object") ∈ lw_all := lw_g (lw_at lw_m2 237 rfl) rfl
theorem q974 : (Jvm.Cond.instanceMethod ({ cls := "LotBeliefs$State", name := "become", desc := "(LLotBeliefs$State;)V" } : Jvm.MethodName)) ∈ lw_all := lw_g (lw_at lw_m4 130 rfl) rfl
theorem q975 : (Jvm.Cond.selects "LotBeliefs$State" ({ cls := "LotBeliefs$State", name := "become", desc := "(LLotBeliefs$State;)V" } : Jvm.MethodName) ({ cls := "LotBeliefs$State", name := "become", desc := "(LLotBeliefs$State;)V" } : Jvm.MethodName)) ∈ lw_all := lw_g (lw_at lw_m4 131 rfl) rfl
theorem q976 : (Jvm.Cond.code ({ cls := "LotBeliefs$State", name := "become", desc := "(LLotBeliefs$State;)V" } : Jvm.MethodName) prog_13_method_2_code (2 : Nat) (Option.none : Option Jvm.ClassFile.FieldType)) ∈ lw_all := lw_g (lw_at lw_m4 132 rfl) rfl
theorem q977 : (Jvm.Cond.methodLink "LotBeliefs$State" (15 : Nat) ({ cls := "java/lang/System", name := "arraycopy", desc := "(Ljava/lang/Object;ILjava/lang/Object;II)V" } : Jvm.MethodName)) ∈ lw_all := lw_g (lw_at lw_m4 133 rfl) rfl
theorem q1296 : (Jvm.Cond.selects "LotBeliefs$State" ({ cls := "java/lang/Object", name := "getClass", desc := "()Ljava/lang/Class;" } : Jvm.MethodName) ({ cls := "java/lang/Object", name := "getClass", desc := "()Ljava/lang/Class;" } : Jvm.MethodName)) ∈ lw_all := lw_g (lw_at lw_m5 212 rfl) rfl
theorem q2708 : (Jvm.Cond.castable "LotBeliefs$State" "java/lang/Object") ∈ lw_tbl := lw_at lw_m11 184 rfl

abbrev cX5_init : ByteArray := prog_10_method_1_code
def yX5_init : MethodName := ⟨RX5, "<init>", "(LLotBeliefs;)V"⟩
def dkwX5_init_2 : List UInt8 := [181, 0, 28, 42, 16, 17, 188, 10, 181, 0, 31, 42, 16, 52, 188, 10, 181, 0, 34, 177]
abbrev dktX5_init_2 : List UInt8 := dkwX5_init_2 ++ []
def dkwX5_init_1 : List UInt8 := [181, 0, 19, 42, 16, 17, 188, 10, 181, 0, 22, 42, 16, 17, 188, 10, 181, 0, 25, 42, 16, 17, 188, 10]
abbrev dktX5_init_1 : List UInt8 := dkwX5_init_1 ++ dktX5_init_2
def dkwX5_init_0 : List UInt8 := [42, 43, 181, 0, 3, 42, 183, 0, 9, 42, 16, 17, 188, 10, 181, 0, 15, 42, 16, 17, 188, 10]
abbrev dktX5_init_0 : List UInt8 := dkwX5_init_0 ++ dktX5_init_1
theorem dksX5_init_0 : cX5_init.data.toList.drop 0 = dktX5_init_0 := by decide +kernel
theorem dksX5_init_1 : cX5_init.data.toList.drop 22 = dktX5_init_1 := dk_seg dksX5_init_0 22 rfl rfl
theorem dksX5_init_2 : cX5_init.data.toList.drop 46 = dktX5_init_2 := dk_seg dksX5_init_1 24 rfl rfl
theorem dX5_init_0 : decode cX5_init 0 = .ok (.aload_n 0, 1) := dk_42 (dk_at dksX5_init_0 0 rfl rfl)
theorem dX5_init_1 : decode cX5_init 1 = .ok (.aload_n 1, 1) := dk_43 (dk_at dksX5_init_0 1 rfl rfl)
theorem dX5_init_2 : decode cX5_init 2 = .ok (.putfield 3, 3) := dk_181 0 3 (dk_at dksX5_init_0 2 rfl rfl)
theorem dX5_init_5 : decode cX5_init 5 = .ok (.aload_n 0, 1) := dk_42 (dk_at dksX5_init_0 5 rfl rfl)
theorem dX5_init_6 : decode cX5_init 6 = .ok (.invokespecial 9, 3) := dk_183 0 9 (dk_at dksX5_init_0 6 rfl rfl)
theorem dX5_init_9 : decode cX5_init 9 = .ok (.aload_n 0, 1) := dk_42 (dk_at dksX5_init_0 9 rfl rfl)
theorem dX5_init_10 : decode cX5_init 10 = .ok (.bipush 17, 2) := dk_16 17 (dk_at dksX5_init_0 10 rfl rfl)
theorem dX5_init_12 : decode cX5_init 12 = .ok (.newarray .int, 2) := dk_188_10 (dk_at dksX5_init_0 12 rfl rfl)
theorem dX5_init_14 : decode cX5_init 14 = .ok (.putfield 15, 3) := dk_181 0 15 (dk_at dksX5_init_0 14 rfl rfl)
theorem dX5_init_17 : decode cX5_init 17 = .ok (.aload_n 0, 1) := dk_42 (dk_at dksX5_init_0 17 rfl rfl)
theorem dX5_init_18 : decode cX5_init 18 = .ok (.bipush 17, 2) := dk_16 17 (dk_at dksX5_init_0 18 rfl rfl)
theorem dX5_init_20 : decode cX5_init 20 = .ok (.newarray .int, 2) := dk_188_10 (dk_at dksX5_init_0 20 rfl rfl)
theorem dX5_init_22 : decode cX5_init 22 = .ok (.putfield 19, 3) := dk_181 0 19 (dk_at dksX5_init_1 0 rfl rfl)
theorem dX5_init_25 : decode cX5_init 25 = .ok (.aload_n 0, 1) := dk_42 (dk_at dksX5_init_1 3 rfl rfl)
theorem dX5_init_26 : decode cX5_init 26 = .ok (.bipush 17, 2) := dk_16 17 (dk_at dksX5_init_1 4 rfl rfl)
theorem dX5_init_28 : decode cX5_init 28 = .ok (.newarray .int, 2) := dk_188_10 (dk_at dksX5_init_1 6 rfl rfl)
theorem dX5_init_30 : decode cX5_init 30 = .ok (.putfield 22, 3) := dk_181 0 22 (dk_at dksX5_init_1 8 rfl rfl)
theorem dX5_init_33 : decode cX5_init 33 = .ok (.aload_n 0, 1) := dk_42 (dk_at dksX5_init_1 11 rfl rfl)
theorem dX5_init_34 : decode cX5_init 34 = .ok (.bipush 17, 2) := dk_16 17 (dk_at dksX5_init_1 12 rfl rfl)
theorem dX5_init_36 : decode cX5_init 36 = .ok (.newarray .int, 2) := dk_188_10 (dk_at dksX5_init_1 14 rfl rfl)
theorem dX5_init_38 : decode cX5_init 38 = .ok (.putfield 25, 3) := dk_181 0 25 (dk_at dksX5_init_1 16 rfl rfl)
theorem dX5_init_41 : decode cX5_init 41 = .ok (.aload_n 0, 1) := dk_42 (dk_at dksX5_init_1 19 rfl rfl)
theorem dX5_init_42 : decode cX5_init 42 = .ok (.bipush 17, 2) := dk_16 17 (dk_at dksX5_init_1 20 rfl rfl)
theorem dX5_init_44 : decode cX5_init 44 = .ok (.newarray .int, 2) := dk_188_10 (dk_at dksX5_init_1 22 rfl rfl)
theorem dX5_init_46 : decode cX5_init 46 = .ok (.putfield 28, 3) := dk_181 0 28 (dk_at dksX5_init_2 0 rfl rfl)
theorem dX5_init_49 : decode cX5_init 49 = .ok (.aload_n 0, 1) := dk_42 (dk_at dksX5_init_2 3 rfl rfl)
theorem dX5_init_50 : decode cX5_init 50 = .ok (.bipush 17, 2) := dk_16 17 (dk_at dksX5_init_2 4 rfl rfl)
theorem dX5_init_52 : decode cX5_init 52 = .ok (.newarray .int, 2) := dk_188_10 (dk_at dksX5_init_2 6 rfl rfl)
theorem dX5_init_54 : decode cX5_init 54 = .ok (.putfield 31, 3) := dk_181 0 31 (dk_at dksX5_init_2 8 rfl rfl)
theorem dX5_init_57 : decode cX5_init 57 = .ok (.aload_n 0, 1) := dk_42 (dk_at dksX5_init_2 11 rfl rfl)
theorem dX5_init_58 : decode cX5_init 58 = .ok (.bipush 52, 2) := dk_16 52 (dk_at dksX5_init_2 12 rfl rfl)
theorem dX5_init_60 : decode cX5_init 60 = .ok (.newarray .int, 2) := dk_188_10 (dk_at dksX5_init_2 14 rfl rfl)
theorem dX5_init_62 : decode cX5_init 62 = .ok (.putfield 34, 3) := dk_181 0 34 (dk_at dksX5_init_2 16 rfl rfl)
theorem dX5_init_65 : decode cX5_init 65 = .ok (.return_, 1) := dk_177 (dk_at dksX5_init_2 19 rfl rfl)
abbrev cX5_begins : ByteArray := prog_10_method_2_code
def yX5_begins : MethodName := ⟨RX5, "begins", "(I)LLotBeliefs$School;"⟩
def dkwX5_begins_2 : List UInt8 := [2, 79, 42, 180, 0, 28, 28, 3, 79, 42, 180, 0, 31, 28, 3, 79, 132, 2, 1, 167, 255, 212, 42, 176]
abbrev dktX5_begins_2 : List UInt8 := dkwX5_begins_2 ++ []
def dkwX5_begins_1 : List UInt8 := [16, 17, 162, 0, 44, 42, 180, 0, 19, 28, 2, 79, 42, 180, 0, 22, 28, 2, 79, 42, 180, 0, 25, 28]
abbrev dktX5_begins_1 : List UInt8 := dkwX5_begins_1 ++ dktX5_begins_2
def dkwX5_begins_0 : List UInt8 := [42, 3, 181, 0, 37, 42, 3, 181, 0, 41, 42, 3, 181, 0, 44, 42, 27, 181, 0, 47, 3, 61, 28]
abbrev dktX5_begins_0 : List UInt8 := dkwX5_begins_0 ++ dktX5_begins_1
theorem dksX5_begins_0 : cX5_begins.data.toList.drop 0 = dktX5_begins_0 := by decide +kernel
theorem dksX5_begins_1 : cX5_begins.data.toList.drop 23 = dktX5_begins_1 := dk_seg dksX5_begins_0 23 rfl rfl
theorem dksX5_begins_2 : cX5_begins.data.toList.drop 47 = dktX5_begins_2 := dk_seg dksX5_begins_1 24 rfl rfl
theorem dX5_begins_0 : decode cX5_begins 0 = .ok (.aload_n 0, 1) := dk_42 (dk_at dksX5_begins_0 0 rfl rfl)
theorem dX5_begins_1 : decode cX5_begins 1 = .ok (.iconst 0, 1) := dk_3 (dk_at dksX5_begins_0 1 rfl rfl)
theorem dX5_begins_2 : decode cX5_begins 2 = .ok (.putfield 37, 3) := dk_181 0 37 (dk_at dksX5_begins_0 2 rfl rfl)
theorem dX5_begins_5 : decode cX5_begins 5 = .ok (.aload_n 0, 1) := dk_42 (dk_at dksX5_begins_0 5 rfl rfl)
theorem dX5_begins_6 : decode cX5_begins 6 = .ok (.iconst 0, 1) := dk_3 (dk_at dksX5_begins_0 6 rfl rfl)
theorem dX5_begins_7 : decode cX5_begins 7 = .ok (.putfield 41, 3) := dk_181 0 41 (dk_at dksX5_begins_0 7 rfl rfl)
theorem dX5_begins_10 : decode cX5_begins 10 = .ok (.aload_n 0, 1) := dk_42 (dk_at dksX5_begins_0 10 rfl rfl)
theorem dX5_begins_11 : decode cX5_begins 11 = .ok (.iconst 0, 1) := dk_3 (dk_at dksX5_begins_0 11 rfl rfl)
theorem dX5_begins_12 : decode cX5_begins 12 = .ok (.putfield 44, 3) := dk_181 0 44 (dk_at dksX5_begins_0 12 rfl rfl)
theorem dX5_begins_15 : decode cX5_begins 15 = .ok (.aload_n 0, 1) := dk_42 (dk_at dksX5_begins_0 15 rfl rfl)
theorem dX5_begins_16 : decode cX5_begins 16 = .ok (.iload_n 1, 1) := dk_27 (dk_at dksX5_begins_0 16 rfl rfl)
theorem dX5_begins_17 : decode cX5_begins 17 = .ok (.putfield 47, 3) := dk_181 0 47 (dk_at dksX5_begins_0 17 rfl rfl)
theorem dX5_begins_20 : decode cX5_begins 20 = .ok (.iconst 0, 1) := dk_3 (dk_at dksX5_begins_0 20 rfl rfl)
theorem dX5_begins_21 : decode cX5_begins 21 = .ok (.istore_n 2, 1) := dk_61 (dk_at dksX5_begins_0 21 rfl rfl)
theorem dX5_begins_22 : decode cX5_begins 22 = .ok (.iload_n 2, 1) := dk_28 (dk_at dksX5_begins_0 22 rfl rfl)
theorem dX5_begins_23 : decode cX5_begins 23 = .ok (.bipush 17, 2) := dk_16 17 (dk_at dksX5_begins_1 0 rfl rfl)
theorem dX5_begins_25 : decode cX5_begins 25 = .ok (.if_icmp .ge 44, 3) := dk_162 0 44 (dk_at dksX5_begins_1 2 rfl rfl)
theorem dX5_begins_28 : decode cX5_begins 28 = .ok (.aload_n 0, 1) := dk_42 (dk_at dksX5_begins_1 5 rfl rfl)
theorem dX5_begins_29 : decode cX5_begins 29 = .ok (.getfield 19, 3) := dk_180 0 19 (dk_at dksX5_begins_1 6 rfl rfl)
theorem dX5_begins_32 : decode cX5_begins 32 = .ok (.iload_n 2, 1) := dk_28 (dk_at dksX5_begins_1 9 rfl rfl)
theorem dX5_begins_33 : decode cX5_begins 33 = .ok (.iconst (-1), 1) := dk_2 (dk_at dksX5_begins_1 10 rfl rfl)
theorem dX5_begins_34 : decode cX5_begins 34 = .ok (.iastore, 1) := dk_79 (dk_at dksX5_begins_1 11 rfl rfl)
theorem dX5_begins_35 : decode cX5_begins 35 = .ok (.aload_n 0, 1) := dk_42 (dk_at dksX5_begins_1 12 rfl rfl)
theorem dX5_begins_36 : decode cX5_begins 36 = .ok (.getfield 22, 3) := dk_180 0 22 (dk_at dksX5_begins_1 13 rfl rfl)
theorem dX5_begins_39 : decode cX5_begins 39 = .ok (.iload_n 2, 1) := dk_28 (dk_at dksX5_begins_1 16 rfl rfl)
theorem dX5_begins_40 : decode cX5_begins 40 = .ok (.iconst (-1), 1) := dk_2 (dk_at dksX5_begins_1 17 rfl rfl)
theorem dX5_begins_41 : decode cX5_begins 41 = .ok (.iastore, 1) := dk_79 (dk_at dksX5_begins_1 18 rfl rfl)
theorem dX5_begins_42 : decode cX5_begins 42 = .ok (.aload_n 0, 1) := dk_42 (dk_at dksX5_begins_1 19 rfl rfl)
theorem dX5_begins_43 : decode cX5_begins 43 = .ok (.getfield 25, 3) := dk_180 0 25 (dk_at dksX5_begins_1 20 rfl rfl)
theorem dX5_begins_46 : decode cX5_begins 46 = .ok (.iload_n 2, 1) := dk_28 (dk_at dksX5_begins_1 23 rfl rfl)
theorem dX5_begins_47 : decode cX5_begins 47 = .ok (.iconst (-1), 1) := dk_2 (dk_at dksX5_begins_2 0 rfl rfl)
theorem dX5_begins_48 : decode cX5_begins 48 = .ok (.iastore, 1) := dk_79 (dk_at dksX5_begins_2 1 rfl rfl)
theorem dX5_begins_49 : decode cX5_begins 49 = .ok (.aload_n 0, 1) := dk_42 (dk_at dksX5_begins_2 2 rfl rfl)
theorem dX5_begins_50 : decode cX5_begins 50 = .ok (.getfield 28, 3) := dk_180 0 28 (dk_at dksX5_begins_2 3 rfl rfl)
theorem dX5_begins_53 : decode cX5_begins 53 = .ok (.iload_n 2, 1) := dk_28 (dk_at dksX5_begins_2 6 rfl rfl)
theorem dX5_begins_54 : decode cX5_begins 54 = .ok (.iconst 0, 1) := dk_3 (dk_at dksX5_begins_2 7 rfl rfl)
theorem dX5_begins_55 : decode cX5_begins 55 = .ok (.iastore, 1) := dk_79 (dk_at dksX5_begins_2 8 rfl rfl)
theorem dX5_begins_56 : decode cX5_begins 56 = .ok (.aload_n 0, 1) := dk_42 (dk_at dksX5_begins_2 9 rfl rfl)
theorem dX5_begins_57 : decode cX5_begins 57 = .ok (.getfield 31, 3) := dk_180 0 31 (dk_at dksX5_begins_2 10 rfl rfl)
theorem dX5_begins_60 : decode cX5_begins 60 = .ok (.iload_n 2, 1) := dk_28 (dk_at dksX5_begins_2 13 rfl rfl)
theorem dX5_begins_61 : decode cX5_begins 61 = .ok (.iconst 0, 1) := dk_3 (dk_at dksX5_begins_2 14 rfl rfl)
theorem dX5_begins_62 : decode cX5_begins 62 = .ok (.iastore, 1) := dk_79 (dk_at dksX5_begins_2 15 rfl rfl)
theorem dX5_begins_63 : decode cX5_begins 63 = .ok (.iinc 2 1, 3) := dk_132 2 1 (dk_at dksX5_begins_2 16 rfl rfl)
theorem dX5_begins_66 : decode cX5_begins 66 = .ok (.goto (-44), 3) := dk_167 255 212 (dk_at dksX5_begins_2 19 rfl rfl)
theorem dX5_begins_69 : decode cX5_begins 69 = .ok (.aload_n 0, 1) := dk_42 (dk_at dksX5_begins_2 22 rfl rfl)
theorem dX5_begins_70 : decode cX5_begins 70 = .ok (.areturn, 1) := dk_176 (dk_at dksX5_begins_2 23 rfl rfl)
abbrev cX5_goes : ByteArray := prog_10_method_8_code
def yX5_goes : MethodName := ⟨RX5, "goes", "(II)V"⟩
def dkwX5_goes_7 : List UInt8 := [4, 21, 4, 120, 128, 79, 132, 3, 1, 167, 255, 179, 177]
abbrev dktX5_goes_7 : List UInt8 := dkwX5_goes_7 ++ []
def dkwX5_goes_6 : List UInt8 := [153, 0, 7, 3, 167, 0, 4, 4, 96, 79, 21, 4, 16, 12, 162, 0, 16, 42, 180, 0, 34, 27, 92, 46]
abbrev dktX5_goes_6 : List UInt8 := dkwX5_goes_6 ++ dktX5_goes_7
def dkwX5_goes_5 : List UInt8 := [92, 46, 4, 96, 79, 42, 180, 0, 31, 21, 4, 92, 46, 42, 180, 0, 3, 21, 4, 182, 0, 106]
abbrev dktX5_goes_5 : List UInt8 := dkwX5_goes_5 ++ dktX5_goes_6
def dkwX5_goes_4 : List UInt8 := [3, 62, 29, 42, 180, 0, 37, 162, 0, 75, 42, 180, 0, 15, 29, 46, 54, 4, 42, 180, 0, 28, 21, 4]
abbrev dktX5_goes_4 : List UInt8 := dkwX5_goes_4 ++ dktX5_goes_5
def dkwX5_goes_3 : List UInt8 := [182, 0, 96, 167, 255, 199, 28, 2, 159, 0, 9, 42, 28, 27, 182, 0, 103, 42, 180, 0, 34, 27, 3, 79]
abbrev dktX5_goes_3 : List UInt8 := dkwX5_goes_3 ++ dktX5_goes_4
def dkwX5_goes_2 : List UInt8 := [153, 0, 9, 132, 3, 1, 167, 255, 218, 42, 42, 180, 0, 15, 29, 46, 27, 182, 0, 86, 42, 29]
abbrev dktX5_goes_2 : List UInt8 := dkwX5_goes_2 ++ dktX5_goes_3
def dkwX5_goes_1 : List UInt8 := [180, 0, 3, 180, 0, 50, 180, 0, 54, 42, 180, 0, 15, 29, 46, 47, 42, 180, 0, 66, 127, 9, 148]
abbrev dktX5_goes_1 : List UInt8 := dkwX5_goes_1 ++ dktX5_goes_2
def dkwX5_goes_0 : List UInt8 := [42, 42, 180, 0, 3, 180, 0, 100, 27, 47, 181, 0, 66, 3, 62, 29, 42, 180, 0, 37, 162, 0, 55, 42]
abbrev dktX5_goes_0 : List UInt8 := dkwX5_goes_0 ++ dktX5_goes_1
theorem dksX5_goes_0 : cX5_goes.data.toList.drop 0 = dktX5_goes_0 := by decide +kernel
theorem dksX5_goes_1 : cX5_goes.data.toList.drop 24 = dktX5_goes_1 := dk_seg dksX5_goes_0 24 rfl rfl
theorem dksX5_goes_2 : cX5_goes.data.toList.drop 47 = dktX5_goes_2 := dk_seg dksX5_goes_1 23 rfl rfl
theorem dksX5_goes_3 : cX5_goes.data.toList.drop 69 = dktX5_goes_3 := dk_seg dksX5_goes_2 22 rfl rfl
theorem dksX5_goes_4 : cX5_goes.data.toList.drop 93 = dktX5_goes_4 := dk_seg dksX5_goes_3 24 rfl rfl
theorem dksX5_goes_5 : cX5_goes.data.toList.drop 117 = dktX5_goes_5 := dk_seg dksX5_goes_4 24 rfl rfl
theorem dksX5_goes_6 : cX5_goes.data.toList.drop 139 = dktX5_goes_6 := dk_seg dksX5_goes_5 22 rfl rfl
theorem dksX5_goes_7 : cX5_goes.data.toList.drop 163 = dktX5_goes_7 := dk_seg dksX5_goes_6 24 rfl rfl
theorem dX5_goes_0 : decode cX5_goes 0 = .ok (.aload_n 0, 1) := dk_42 (dk_at dksX5_goes_0 0 rfl rfl)
theorem dX5_goes_1 : decode cX5_goes 1 = .ok (.aload_n 0, 1) := dk_42 (dk_at dksX5_goes_0 1 rfl rfl)
theorem dX5_goes_2 : decode cX5_goes 2 = .ok (.getfield 3, 3) := dk_180 0 3 (dk_at dksX5_goes_0 2 rfl rfl)
theorem dX5_goes_5 : decode cX5_goes 5 = .ok (.getfield 100, 3) := dk_180 0 100 (dk_at dksX5_goes_0 5 rfl rfl)
theorem dX5_goes_8 : decode cX5_goes 8 = .ok (.iload_n 1, 1) := dk_27 (dk_at dksX5_goes_0 8 rfl rfl)
theorem dX5_goes_9 : decode cX5_goes 9 = .ok (.laload, 1) := dk_47 (dk_at dksX5_goes_0 9 rfl rfl)
theorem dX5_goes_10 : decode cX5_goes 10 = .ok (.putfield 66, 3) := dk_181 0 66 (dk_at dksX5_goes_0 10 rfl rfl)
theorem dX5_goes_13 : decode cX5_goes 13 = .ok (.iconst 0, 1) := dk_3 (dk_at dksX5_goes_0 13 rfl rfl)
theorem dX5_goes_14 : decode cX5_goes 14 = .ok (.istore_n 3, 1) := dk_62 (dk_at dksX5_goes_0 14 rfl rfl)
theorem dX5_goes_15 : decode cX5_goes 15 = .ok (.iload_n 3, 1) := dk_29 (dk_at dksX5_goes_0 15 rfl rfl)
theorem dX5_goes_16 : decode cX5_goes 16 = .ok (.aload_n 0, 1) := dk_42 (dk_at dksX5_goes_0 16 rfl rfl)
theorem dX5_goes_17 : decode cX5_goes 17 = .ok (.getfield 37, 3) := dk_180 0 37 (dk_at dksX5_goes_0 17 rfl rfl)
theorem dX5_goes_20 : decode cX5_goes 20 = .ok (.if_icmp .ge 55, 3) := dk_162 0 55 (dk_at dksX5_goes_0 20 rfl rfl)
theorem dX5_goes_23 : decode cX5_goes 23 = .ok (.aload_n 0, 1) := dk_42 (dk_at dksX5_goes_0 23 rfl rfl)
theorem dX5_goes_24 : decode cX5_goes 24 = .ok (.getfield 3, 3) := dk_180 0 3 (dk_at dksX5_goes_1 0 rfl rfl)
theorem dX5_goes_27 : decode cX5_goes 27 = .ok (.getfield 50, 3) := dk_180 0 50 (dk_at dksX5_goes_1 3 rfl rfl)
theorem dX5_goes_30 : decode cX5_goes 30 = .ok (.getfield 54, 3) := dk_180 0 54 (dk_at dksX5_goes_1 6 rfl rfl)
theorem dX5_goes_33 : decode cX5_goes 33 = .ok (.aload_n 0, 1) := dk_42 (dk_at dksX5_goes_1 9 rfl rfl)
theorem dX5_goes_34 : decode cX5_goes 34 = .ok (.getfield 15, 3) := dk_180 0 15 (dk_at dksX5_goes_1 10 rfl rfl)
theorem dX5_goes_37 : decode cX5_goes 37 = .ok (.iload_n 3, 1) := dk_29 (dk_at dksX5_goes_1 13 rfl rfl)
theorem dX5_goes_38 : decode cX5_goes 38 = .ok (.iaload, 1) := dk_46 (dk_at dksX5_goes_1 14 rfl rfl)
theorem dX5_goes_39 : decode cX5_goes 39 = .ok (.laload, 1) := dk_47 (dk_at dksX5_goes_1 15 rfl rfl)
theorem dX5_goes_40 : decode cX5_goes 40 = .ok (.aload_n 0, 1) := dk_42 (dk_at dksX5_goes_1 16 rfl rfl)
theorem dX5_goes_41 : decode cX5_goes 41 = .ok (.getfield 66, 3) := dk_180 0 66 (dk_at dksX5_goes_1 17 rfl rfl)
theorem dX5_goes_44 : decode cX5_goes 44 = .ok (.land, 1) := dk_127 (dk_at dksX5_goes_1 20 rfl rfl)
theorem dX5_goes_45 : decode cX5_goes 45 = .ok (.lconst 0, 1) := dk_9 (dk_at dksX5_goes_1 21 rfl rfl)
theorem dX5_goes_46 : decode cX5_goes 46 = .ok (.lcmp, 1) := dk_148 (dk_at dksX5_goes_1 22 rfl rfl)
theorem dX5_goes_47 : decode cX5_goes 47 = .ok (.ifCond .eq 9, 3) := dk_153 0 9 (dk_at dksX5_goes_2 0 rfl rfl)
theorem dX5_goes_50 : decode cX5_goes 50 = .ok (.iinc 3 1, 3) := dk_132 3 1 (dk_at dksX5_goes_2 3 rfl rfl)
theorem dX5_goes_53 : decode cX5_goes 53 = .ok (.goto (-38), 3) := dk_167 255 218 (dk_at dksX5_goes_2 6 rfl rfl)
theorem dX5_goes_56 : decode cX5_goes 56 = .ok (.aload_n 0, 1) := dk_42 (dk_at dksX5_goes_2 9 rfl rfl)
theorem dX5_goes_57 : decode cX5_goes 57 = .ok (.aload_n 0, 1) := dk_42 (dk_at dksX5_goes_2 10 rfl rfl)
theorem dX5_goes_58 : decode cX5_goes 58 = .ok (.getfield 15, 3) := dk_180 0 15 (dk_at dksX5_goes_2 11 rfl rfl)
theorem dX5_goes_61 : decode cX5_goes 61 = .ok (.iload_n 3, 1) := dk_29 (dk_at dksX5_goes_2 14 rfl rfl)
theorem dX5_goes_62 : decode cX5_goes 62 = .ok (.iaload, 1) := dk_46 (dk_at dksX5_goes_2 15 rfl rfl)
theorem dX5_goes_63 : decode cX5_goes 63 = .ok (.iload_n 1, 1) := dk_27 (dk_at dksX5_goes_2 16 rfl rfl)
theorem dX5_goes_64 : decode cX5_goes 64 = .ok (.invokevirtual 86, 3) := dk_182 0 86 (dk_at dksX5_goes_2 17 rfl rfl)
theorem dX5_goes_67 : decode cX5_goes 67 = .ok (.aload_n 0, 1) := dk_42 (dk_at dksX5_goes_2 20 rfl rfl)
theorem dX5_goes_68 : decode cX5_goes 68 = .ok (.iload_n 3, 1) := dk_29 (dk_at dksX5_goes_2 21 rfl rfl)
theorem dX5_goes_69 : decode cX5_goes 69 = .ok (.invokevirtual 96, 3) := dk_182 0 96 (dk_at dksX5_goes_3 0 rfl rfl)
theorem dX5_goes_72 : decode cX5_goes 72 = .ok (.goto (-57), 3) := dk_167 255 199 (dk_at dksX5_goes_3 3 rfl rfl)
theorem dX5_goes_75 : decode cX5_goes 75 = .ok (.iload_n 2, 1) := dk_28 (dk_at dksX5_goes_3 6 rfl rfl)
theorem dX5_goes_76 : decode cX5_goes 76 = .ok (.iconst (-1), 1) := dk_2 (dk_at dksX5_goes_3 7 rfl rfl)
theorem dX5_goes_77 : decode cX5_goes 77 = .ok (.if_icmp .eq 9, 3) := dk_159 0 9 (dk_at dksX5_goes_3 8 rfl rfl)
theorem dX5_goes_80 : decode cX5_goes 80 = .ok (.aload_n 0, 1) := dk_42 (dk_at dksX5_goes_3 11 rfl rfl)
theorem dX5_goes_81 : decode cX5_goes 81 = .ok (.iload_n 2, 1) := dk_28 (dk_at dksX5_goes_3 12 rfl rfl)
theorem dX5_goes_82 : decode cX5_goes 82 = .ok (.iload_n 1, 1) := dk_27 (dk_at dksX5_goes_3 13 rfl rfl)
theorem dX5_goes_83 : decode cX5_goes 83 = .ok (.invokevirtual 103, 3) := dk_182 0 103 (dk_at dksX5_goes_3 14 rfl rfl)
theorem dX5_goes_86 : decode cX5_goes 86 = .ok (.aload_n 0, 1) := dk_42 (dk_at dksX5_goes_3 17 rfl rfl)
theorem dX5_goes_87 : decode cX5_goes 87 = .ok (.getfield 34, 3) := dk_180 0 34 (dk_at dksX5_goes_3 18 rfl rfl)
theorem dX5_goes_90 : decode cX5_goes 90 = .ok (.iload_n 1, 1) := dk_27 (dk_at dksX5_goes_3 21 rfl rfl)
theorem dX5_goes_91 : decode cX5_goes 91 = .ok (.iconst 0, 1) := dk_3 (dk_at dksX5_goes_3 22 rfl rfl)
theorem dX5_goes_92 : decode cX5_goes 92 = .ok (.iastore, 1) := dk_79 (dk_at dksX5_goes_3 23 rfl rfl)
theorem dX5_goes_93 : decode cX5_goes 93 = .ok (.iconst 0, 1) := dk_3 (dk_at dksX5_goes_4 0 rfl rfl)
theorem dX5_goes_94 : decode cX5_goes 94 = .ok (.istore_n 3, 1) := dk_62 (dk_at dksX5_goes_4 1 rfl rfl)
theorem dX5_goes_95 : decode cX5_goes 95 = .ok (.iload_n 3, 1) := dk_29 (dk_at dksX5_goes_4 2 rfl rfl)
theorem dX5_goes_96 : decode cX5_goes 96 = .ok (.aload_n 0, 1) := dk_42 (dk_at dksX5_goes_4 3 rfl rfl)
theorem dX5_goes_97 : decode cX5_goes 97 = .ok (.getfield 37, 3) := dk_180 0 37 (dk_at dksX5_goes_4 4 rfl rfl)
theorem dX5_goes_100 : decode cX5_goes 100 = .ok (.if_icmp .ge 75, 3) := dk_162 0 75 (dk_at dksX5_goes_4 7 rfl rfl)
theorem dX5_goes_103 : decode cX5_goes 103 = .ok (.aload_n 0, 1) := dk_42 (dk_at dksX5_goes_4 10 rfl rfl)
theorem dX5_goes_104 : decode cX5_goes 104 = .ok (.getfield 15, 3) := dk_180 0 15 (dk_at dksX5_goes_4 11 rfl rfl)
theorem dX5_goes_107 : decode cX5_goes 107 = .ok (.iload_n 3, 1) := dk_29 (dk_at dksX5_goes_4 14 rfl rfl)
theorem dX5_goes_108 : decode cX5_goes 108 = .ok (.iaload, 1) := dk_46 (dk_at dksX5_goes_4 15 rfl rfl)
theorem dX5_goes_109 : decode cX5_goes 109 = .ok (.istore 4, 2) := dk_54 4 (dk_at dksX5_goes_4 16 rfl rfl)
theorem dX5_goes_111 : decode cX5_goes 111 = .ok (.aload_n 0, 1) := dk_42 (dk_at dksX5_goes_4 18 rfl rfl)
theorem dX5_goes_112 : decode cX5_goes 112 = .ok (.getfield 28, 3) := dk_180 0 28 (dk_at dksX5_goes_4 19 rfl rfl)
theorem dX5_goes_115 : decode cX5_goes 115 = .ok (.iload 4, 2) := dk_21 4 (dk_at dksX5_goes_4 22 rfl rfl)
theorem dX5_goes_117 : decode cX5_goes 117 = .ok (.dup2, 1) := dk_92 (dk_at dksX5_goes_5 0 rfl rfl)
theorem dX5_goes_118 : decode cX5_goes 118 = .ok (.iaload, 1) := dk_46 (dk_at dksX5_goes_5 1 rfl rfl)
theorem dX5_goes_119 : decode cX5_goes 119 = .ok (.iconst 1, 1) := dk_4 (dk_at dksX5_goes_5 2 rfl rfl)
theorem dX5_goes_120 : decode cX5_goes 120 = .ok (.iadd, 1) := dk_96 (dk_at dksX5_goes_5 3 rfl rfl)
theorem dX5_goes_121 : decode cX5_goes 121 = .ok (.iastore, 1) := dk_79 (dk_at dksX5_goes_5 4 rfl rfl)
theorem dX5_goes_122 : decode cX5_goes 122 = .ok (.aload_n 0, 1) := dk_42 (dk_at dksX5_goes_5 5 rfl rfl)
theorem dX5_goes_123 : decode cX5_goes 123 = .ok (.getfield 31, 3) := dk_180 0 31 (dk_at dksX5_goes_5 6 rfl rfl)
theorem dX5_goes_126 : decode cX5_goes 126 = .ok (.iload 4, 2) := dk_21 4 (dk_at dksX5_goes_5 9 rfl rfl)
theorem dX5_goes_128 : decode cX5_goes 128 = .ok (.dup2, 1) := dk_92 (dk_at dksX5_goes_5 11 rfl rfl)
theorem dX5_goes_129 : decode cX5_goes 129 = .ok (.iaload, 1) := dk_46 (dk_at dksX5_goes_5 12 rfl rfl)
theorem dX5_goes_130 : decode cX5_goes 130 = .ok (.aload_n 0, 1) := dk_42 (dk_at dksX5_goes_5 13 rfl rfl)
theorem dX5_goes_131 : decode cX5_goes 131 = .ok (.getfield 3, 3) := dk_180 0 3 (dk_at dksX5_goes_5 14 rfl rfl)
theorem dX5_goes_134 : decode cX5_goes 134 = .ok (.iload 4, 2) := dk_21 4 (dk_at dksX5_goes_5 17 rfl rfl)
theorem dX5_goes_136 : decode cX5_goes 136 = .ok (.invokevirtual 106, 3) := dk_182 0 106 (dk_at dksX5_goes_5 19 rfl rfl)
theorem dX5_goes_139 : decode cX5_goes 139 = .ok (.ifCond .eq 7, 3) := dk_153 0 7 (dk_at dksX5_goes_6 0 rfl rfl)
theorem dX5_goes_142 : decode cX5_goes 142 = .ok (.iconst 0, 1) := dk_3 (dk_at dksX5_goes_6 3 rfl rfl)
theorem dX5_goes_143 : decode cX5_goes 143 = .ok (.goto 4, 3) := dk_167 0 4 (dk_at dksX5_goes_6 4 rfl rfl)
theorem dX5_goes_146 : decode cX5_goes 146 = .ok (.iconst 1, 1) := dk_4 (dk_at dksX5_goes_6 7 rfl rfl)
theorem dX5_goes_147 : decode cX5_goes 147 = .ok (.iadd, 1) := dk_96 (dk_at dksX5_goes_6 8 rfl rfl)
theorem dX5_goes_148 : decode cX5_goes 148 = .ok (.iastore, 1) := dk_79 (dk_at dksX5_goes_6 9 rfl rfl)
theorem dX5_goes_149 : decode cX5_goes 149 = .ok (.iload 4, 2) := dk_21 4 (dk_at dksX5_goes_6 10 rfl rfl)
theorem dX5_goes_151 : decode cX5_goes 151 = .ok (.bipush 12, 2) := dk_16 12 (dk_at dksX5_goes_6 12 rfl rfl)
theorem dX5_goes_153 : decode cX5_goes 153 = .ok (.if_icmp .ge 16, 3) := dk_162 0 16 (dk_at dksX5_goes_6 14 rfl rfl)
theorem dX5_goes_156 : decode cX5_goes 156 = .ok (.aload_n 0, 1) := dk_42 (dk_at dksX5_goes_6 17 rfl rfl)
theorem dX5_goes_157 : decode cX5_goes 157 = .ok (.getfield 34, 3) := dk_180 0 34 (dk_at dksX5_goes_6 18 rfl rfl)
theorem dX5_goes_160 : decode cX5_goes 160 = .ok (.iload_n 1, 1) := dk_27 (dk_at dksX5_goes_6 21 rfl rfl)
theorem dX5_goes_161 : decode cX5_goes 161 = .ok (.dup2, 1) := dk_92 (dk_at dksX5_goes_6 22 rfl rfl)
theorem dX5_goes_162 : decode cX5_goes 162 = .ok (.iaload, 1) := dk_46 (dk_at dksX5_goes_6 23 rfl rfl)
theorem dX5_goes_163 : decode cX5_goes 163 = .ok (.iconst 1, 1) := dk_4 (dk_at dksX5_goes_7 0 rfl rfl)
theorem dX5_goes_164 : decode cX5_goes 164 = .ok (.iload 4, 2) := dk_21 4 (dk_at dksX5_goes_7 1 rfl rfl)
theorem dX5_goes_166 : decode cX5_goes 166 = .ok (.ishl, 1) := dk_120 (dk_at dksX5_goes_7 3 rfl rfl)
theorem dX5_goes_167 : decode cX5_goes 167 = .ok (.ior, 1) := dk_128 (dk_at dksX5_goes_7 4 rfl rfl)
theorem dX5_goes_168 : decode cX5_goes 168 = .ok (.iastore, 1) := dk_79 (dk_at dksX5_goes_7 5 rfl rfl)
theorem dX5_goes_169 : decode cX5_goes 169 = .ok (.iinc 3 1, 3) := dk_132 3 1 (dk_at dksX5_goes_7 6 rfl rfl)
theorem dX5_goes_172 : decode cX5_goes 172 = .ok (.goto (-77), 3) := dk_167 255 179 (dk_at dksX5_goes_7 9 rfl rfl)
theorem dX5_goes_175 : decode cX5_goes 175 = .ok (.return_, 1) := dk_177 (dk_at dksX5_goes_7 12 rfl rfl)
abbrev cX5_kills : ByteArray := prog_10_method_4_code
def yX5_kills : MethodName := ⟨RX5, "kills", "(II)V"⟩
def dkwX5_kills_0 : List UInt8 := [42, 180, 0, 22, 27, 28, 79, 42, 89, 180, 0, 44, 4, 96, 181, 0, 44, 177]
abbrev dktX5_kills_0 : List UInt8 := dkwX5_kills_0 ++ []
theorem dksX5_kills_0 : cX5_kills.data.toList.drop 0 = dktX5_kills_0 := by decide +kernel
theorem dX5_kills_0 : decode cX5_kills 0 = .ok (.aload_n 0, 1) := dk_42 (dk_at dksX5_kills_0 0 rfl rfl)
theorem dX5_kills_1 : decode cX5_kills 1 = .ok (.getfield 22, 3) := dk_180 0 22 (dk_at dksX5_kills_0 1 rfl rfl)
theorem dX5_kills_4 : decode cX5_kills 4 = .ok (.iload_n 1, 1) := dk_27 (dk_at dksX5_kills_0 4 rfl rfl)
theorem dX5_kills_5 : decode cX5_kills 5 = .ok (.iload_n 2, 1) := dk_28 (dk_at dksX5_kills_0 5 rfl rfl)
theorem dX5_kills_6 : decode cX5_kills 6 = .ok (.iastore, 1) := dk_79 (dk_at dksX5_kills_0 6 rfl rfl)
theorem dX5_kills_7 : decode cX5_kills 7 = .ok (.aload_n 0, 1) := dk_42 (dk_at dksX5_kills_0 7 rfl rfl)
theorem dX5_kills_8 : decode cX5_kills 8 = .ok (.dup, 1) := dk_89 (dk_at dksX5_kills_0 8 rfl rfl)
theorem dX5_kills_9 : decode cX5_kills 9 = .ok (.getfield 44, 3) := dk_180 0 44 (dk_at dksX5_kills_0 9 rfl rfl)
theorem dX5_kills_12 : decode cX5_kills 12 = .ok (.iconst 1, 1) := dk_4 (dk_at dksX5_kills_0 12 rfl rfl)
theorem dX5_kills_13 : decode cX5_kills 13 = .ok (.iadd, 1) := dk_96 (dk_at dksX5_kills_0 13 rfl rfl)
theorem dX5_kills_14 : decode cX5_kills 14 = .ok (.putfield 44, 3) := dk_181 0 44 (dk_at dksX5_kills_0 14 rfl rfl)
theorem dX5_kills_17 : decode cX5_kills 17 = .ok (.return_, 1) := dk_177 (dk_at dksX5_kills_0 17 rfl rfl)
abbrev cX5_leaves : ByteArray := prog_10_method_3_code
def yX5_leaves : MethodName := ⟨RX5, "leaves", "(I)V"⟩
def dkwX5_leaves_1 : List UInt8 := [28, 42, 180, 0, 15, 28, 4, 96, 46, 79, 132, 2, 1, 167, 255, 231, 177]
abbrev dktX5_leaves_1 : List UInt8 := dkwX5_leaves_1 ++ []
def dkwX5_leaves_0 : List UInt8 := [42, 89, 180, 0, 37, 4, 100, 181, 0, 37, 27, 61, 28, 42, 180, 0, 37, 162, 0, 23, 42, 180, 0, 15]
abbrev dktX5_leaves_0 : List UInt8 := dkwX5_leaves_0 ++ dktX5_leaves_1
theorem dksX5_leaves_0 : cX5_leaves.data.toList.drop 0 = dktX5_leaves_0 := by decide +kernel
theorem dksX5_leaves_1 : cX5_leaves.data.toList.drop 24 = dktX5_leaves_1 := dk_seg dksX5_leaves_0 24 rfl rfl
theorem dX5_leaves_0 : decode cX5_leaves 0 = .ok (.aload_n 0, 1) := dk_42 (dk_at dksX5_leaves_0 0 rfl rfl)
theorem dX5_leaves_1 : decode cX5_leaves 1 = .ok (.dup, 1) := dk_89 (dk_at dksX5_leaves_0 1 rfl rfl)
theorem dX5_leaves_2 : decode cX5_leaves 2 = .ok (.getfield 37, 3) := dk_180 0 37 (dk_at dksX5_leaves_0 2 rfl rfl)
theorem dX5_leaves_5 : decode cX5_leaves 5 = .ok (.iconst 1, 1) := dk_4 (dk_at dksX5_leaves_0 5 rfl rfl)
theorem dX5_leaves_6 : decode cX5_leaves 6 = .ok (.isub, 1) := dk_100 (dk_at dksX5_leaves_0 6 rfl rfl)
theorem dX5_leaves_7 : decode cX5_leaves 7 = .ok (.putfield 37, 3) := dk_181 0 37 (dk_at dksX5_leaves_0 7 rfl rfl)
theorem dX5_leaves_10 : decode cX5_leaves 10 = .ok (.iload_n 1, 1) := dk_27 (dk_at dksX5_leaves_0 10 rfl rfl)
theorem dX5_leaves_11 : decode cX5_leaves 11 = .ok (.istore_n 2, 1) := dk_61 (dk_at dksX5_leaves_0 11 rfl rfl)
theorem dX5_leaves_12 : decode cX5_leaves 12 = .ok (.iload_n 2, 1) := dk_28 (dk_at dksX5_leaves_0 12 rfl rfl)
theorem dX5_leaves_13 : decode cX5_leaves 13 = .ok (.aload_n 0, 1) := dk_42 (dk_at dksX5_leaves_0 13 rfl rfl)
theorem dX5_leaves_14 : decode cX5_leaves 14 = .ok (.getfield 37, 3) := dk_180 0 37 (dk_at dksX5_leaves_0 14 rfl rfl)
theorem dX5_leaves_17 : decode cX5_leaves 17 = .ok (.if_icmp .ge 23, 3) := dk_162 0 23 (dk_at dksX5_leaves_0 17 rfl rfl)
theorem dX5_leaves_20 : decode cX5_leaves 20 = .ok (.aload_n 0, 1) := dk_42 (dk_at dksX5_leaves_0 20 rfl rfl)
theorem dX5_leaves_21 : decode cX5_leaves 21 = .ok (.getfield 15, 3) := dk_180 0 15 (dk_at dksX5_leaves_0 21 rfl rfl)
theorem dX5_leaves_24 : decode cX5_leaves 24 = .ok (.iload_n 2, 1) := dk_28 (dk_at dksX5_leaves_1 0 rfl rfl)
theorem dX5_leaves_25 : decode cX5_leaves 25 = .ok (.aload_n 0, 1) := dk_42 (dk_at dksX5_leaves_1 1 rfl rfl)
theorem dX5_leaves_26 : decode cX5_leaves 26 = .ok (.getfield 15, 3) := dk_180 0 15 (dk_at dksX5_leaves_1 2 rfl rfl)
theorem dX5_leaves_29 : decode cX5_leaves 29 = .ok (.iload_n 2, 1) := dk_28 (dk_at dksX5_leaves_1 5 rfl rfl)
theorem dX5_leaves_30 : decode cX5_leaves 30 = .ok (.iconst 1, 1) := dk_4 (dk_at dksX5_leaves_1 6 rfl rfl)
theorem dX5_leaves_31 : decode cX5_leaves 31 = .ok (.iadd, 1) := dk_96 (dk_at dksX5_leaves_1 7 rfl rfl)
theorem dX5_leaves_32 : decode cX5_leaves 32 = .ok (.iaload, 1) := dk_46 (dk_at dksX5_leaves_1 8 rfl rfl)
theorem dX5_leaves_33 : decode cX5_leaves 33 = .ok (.iastore, 1) := dk_79 (dk_at dksX5_leaves_1 9 rfl rfl)
theorem dX5_leaves_34 : decode cX5_leaves 34 = .ok (.iinc 2 1, 3) := dk_132 2 1 (dk_at dksX5_leaves_1 10 rfl rfl)
theorem dX5_leaves_37 : decode cX5_leaves 37 = .ok (.goto (-25), 3) := dk_167 255 231 (dk_at dksX5_leaves_1 13 rfl rfl)
theorem dX5_leaves_40 : decode cX5_leaves 40 = .ok (.return_, 1) := dk_177 (dk_at dksX5_leaves_1 16 rfl rfl)
abbrev cX5_meets : ByteArray := prog_10_method_7_code
def yX5_meets : MethodName := ⟨RX5, "meets", "(II)V"⟩
def dkwX5_meets_7 : List UInt8 := [180, 0, 15, 42, 180, 0, 37, 27, 79, 42, 89, 180, 0, 37, 4, 96, 181, 0, 37, 177]
abbrev dktX5_meets_7 : List UInt8 := dkwX5_meets_7 ++ []
def dkwX5_meets_6 : List UInt8 := [182, 0, 93, 42, 29, 182, 0, 96, 167, 255, 144, 42, 180, 0, 22, 27, 46, 2, 159, 0, 4, 177, 42]
abbrev dktX5_meets_6 : List UInt8 := dkwX5_meets_6 ++ dktX5_meets_7
def dkwX5_meets_5 : List UInt8 := [159, 0, 11, 42, 27, 28, 21, 4, 182, 0, 93, 21, 5, 4, 160, 0, 4, 177, 42, 21, 4, 28, 27]
abbrev dktX5_meets_5 : List UInt8 := dkwX5_meets_5 ++ dktX5_meets_6
def dkwX5_meets_4 : List UInt8 := [9, 148, 153, 0, 9, 132, 3, 1, 167, 255, 191, 42, 27, 21, 4, 28, 182, 0, 89, 54, 5, 21, 5, 5]
abbrev dktX5_meets_4 : List UInt8 := dkwX5_meets_4 ++ dktX5_meets_5
def dkwX5_meets_3 : List UInt8 := [180, 0, 54, 27, 47, 42, 180, 0, 3, 180, 0, 50, 180, 0, 54, 21, 4, 47, 127, 42, 180, 0, 66, 127]
abbrev dktX5_meets_3 : List UInt8 := dkwX5_meets_3 ++ dktX5_meets_4
def dkwX5_meets_2 : List UInt8 := [180, 0, 22, 27, 46, 2, 160, 0, 100, 42, 180, 0, 15, 29, 46, 54, 4, 42, 180, 0, 3, 180, 0, 50]
abbrev dktX5_meets_2 : List UInt8 := dkwX5_meets_2 ++ dktX5_meets_3
def dkwX5_meets_1 : List UInt8 := [9, 148, 154, 0, 10, 42, 27, 28, 182, 0, 86, 177, 3, 62, 29, 42, 180, 0, 37, 162, 0, 110, 42]
abbrev dktX5_meets_1 : List UInt8 := dkwX5_meets_1 ++ dktX5_meets_2
def dkwX5_meets_0 : List UInt8 := [42, 180, 0, 19, 27, 28, 79, 42, 180, 0, 3, 180, 0, 50, 180, 0, 54, 27, 47, 42, 180, 0, 66, 127]
abbrev dktX5_meets_0 : List UInt8 := dkwX5_meets_0 ++ dktX5_meets_1
theorem dksX5_meets_0 : cX5_meets.data.toList.drop 0 = dktX5_meets_0 := by decide +kernel
theorem dksX5_meets_1 : cX5_meets.data.toList.drop 24 = dktX5_meets_1 := dk_seg dksX5_meets_0 24 rfl rfl
theorem dksX5_meets_2 : cX5_meets.data.toList.drop 47 = dktX5_meets_2 := dk_seg dksX5_meets_1 23 rfl rfl
theorem dksX5_meets_3 : cX5_meets.data.toList.drop 71 = dktX5_meets_3 := dk_seg dksX5_meets_2 24 rfl rfl
theorem dksX5_meets_4 : cX5_meets.data.toList.drop 95 = dktX5_meets_4 := dk_seg dksX5_meets_3 24 rfl rfl
theorem dksX5_meets_5 : cX5_meets.data.toList.drop 119 = dktX5_meets_5 := dk_seg dksX5_meets_4 24 rfl rfl
theorem dksX5_meets_6 : cX5_meets.data.toList.drop 142 = dktX5_meets_6 := dk_seg dksX5_meets_5 23 rfl rfl
theorem dksX5_meets_7 : cX5_meets.data.toList.drop 165 = dktX5_meets_7 := dk_seg dksX5_meets_6 23 rfl rfl
theorem dX5_meets_0 : decode cX5_meets 0 = .ok (.aload_n 0, 1) := dk_42 (dk_at dksX5_meets_0 0 rfl rfl)
theorem dX5_meets_1 : decode cX5_meets 1 = .ok (.getfield 19, 3) := dk_180 0 19 (dk_at dksX5_meets_0 1 rfl rfl)
theorem dX5_meets_4 : decode cX5_meets 4 = .ok (.iload_n 1, 1) := dk_27 (dk_at dksX5_meets_0 4 rfl rfl)
theorem dX5_meets_5 : decode cX5_meets 5 = .ok (.iload_n 2, 1) := dk_28 (dk_at dksX5_meets_0 5 rfl rfl)
theorem dX5_meets_6 : decode cX5_meets 6 = .ok (.iastore, 1) := dk_79 (dk_at dksX5_meets_0 6 rfl rfl)
theorem dX5_meets_7 : decode cX5_meets 7 = .ok (.aload_n 0, 1) := dk_42 (dk_at dksX5_meets_0 7 rfl rfl)
theorem dX5_meets_8 : decode cX5_meets 8 = .ok (.getfield 3, 3) := dk_180 0 3 (dk_at dksX5_meets_0 8 rfl rfl)
theorem dX5_meets_11 : decode cX5_meets 11 = .ok (.getfield 50, 3) := dk_180 0 50 (dk_at dksX5_meets_0 11 rfl rfl)
theorem dX5_meets_14 : decode cX5_meets 14 = .ok (.getfield 54, 3) := dk_180 0 54 (dk_at dksX5_meets_0 14 rfl rfl)
theorem dX5_meets_17 : decode cX5_meets 17 = .ok (.iload_n 1, 1) := dk_27 (dk_at dksX5_meets_0 17 rfl rfl)
theorem dX5_meets_18 : decode cX5_meets 18 = .ok (.laload, 1) := dk_47 (dk_at dksX5_meets_0 18 rfl rfl)
theorem dX5_meets_19 : decode cX5_meets 19 = .ok (.aload_n 0, 1) := dk_42 (dk_at dksX5_meets_0 19 rfl rfl)
theorem dX5_meets_20 : decode cX5_meets 20 = .ok (.getfield 66, 3) := dk_180 0 66 (dk_at dksX5_meets_0 20 rfl rfl)
theorem dX5_meets_23 : decode cX5_meets 23 = .ok (.land, 1) := dk_127 (dk_at dksX5_meets_0 23 rfl rfl)
theorem dX5_meets_24 : decode cX5_meets 24 = .ok (.lconst 0, 1) := dk_9 (dk_at dksX5_meets_1 0 rfl rfl)
theorem dX5_meets_25 : decode cX5_meets 25 = .ok (.lcmp, 1) := dk_148 (dk_at dksX5_meets_1 1 rfl rfl)
theorem dX5_meets_26 : decode cX5_meets 26 = .ok (.ifCond .ne 10, 3) := dk_154 0 10 (dk_at dksX5_meets_1 2 rfl rfl)
theorem dX5_meets_29 : decode cX5_meets 29 = .ok (.aload_n 0, 1) := dk_42 (dk_at dksX5_meets_1 5 rfl rfl)
theorem dX5_meets_30 : decode cX5_meets 30 = .ok (.iload_n 1, 1) := dk_27 (dk_at dksX5_meets_1 6 rfl rfl)
theorem dX5_meets_31 : decode cX5_meets 31 = .ok (.iload_n 2, 1) := dk_28 (dk_at dksX5_meets_1 7 rfl rfl)
theorem dX5_meets_32 : decode cX5_meets 32 = .ok (.invokevirtual 86, 3) := dk_182 0 86 (dk_at dksX5_meets_1 8 rfl rfl)
theorem dX5_meets_35 : decode cX5_meets 35 = .ok (.return_, 1) := dk_177 (dk_at dksX5_meets_1 11 rfl rfl)
theorem dX5_meets_36 : decode cX5_meets 36 = .ok (.iconst 0, 1) := dk_3 (dk_at dksX5_meets_1 12 rfl rfl)
theorem dX5_meets_37 : decode cX5_meets 37 = .ok (.istore_n 3, 1) := dk_62 (dk_at dksX5_meets_1 13 rfl rfl)
theorem dX5_meets_38 : decode cX5_meets 38 = .ok (.iload_n 3, 1) := dk_29 (dk_at dksX5_meets_1 14 rfl rfl)
theorem dX5_meets_39 : decode cX5_meets 39 = .ok (.aload_n 0, 1) := dk_42 (dk_at dksX5_meets_1 15 rfl rfl)
theorem dX5_meets_40 : decode cX5_meets 40 = .ok (.getfield 37, 3) := dk_180 0 37 (dk_at dksX5_meets_1 16 rfl rfl)
theorem dX5_meets_43 : decode cX5_meets 43 = .ok (.if_icmp .ge 110, 3) := dk_162 0 110 (dk_at dksX5_meets_1 19 rfl rfl)
theorem dX5_meets_46 : decode cX5_meets 46 = .ok (.aload_n 0, 1) := dk_42 (dk_at dksX5_meets_1 22 rfl rfl)
theorem dX5_meets_47 : decode cX5_meets 47 = .ok (.getfield 22, 3) := dk_180 0 22 (dk_at dksX5_meets_2 0 rfl rfl)
theorem dX5_meets_50 : decode cX5_meets 50 = .ok (.iload_n 1, 1) := dk_27 (dk_at dksX5_meets_2 3 rfl rfl)
theorem dX5_meets_51 : decode cX5_meets 51 = .ok (.iaload, 1) := dk_46 (dk_at dksX5_meets_2 4 rfl rfl)
theorem dX5_meets_52 : decode cX5_meets 52 = .ok (.iconst (-1), 1) := dk_2 (dk_at dksX5_meets_2 5 rfl rfl)
theorem dX5_meets_53 : decode cX5_meets 53 = .ok (.if_icmp .ne 100, 3) := dk_160 0 100 (dk_at dksX5_meets_2 6 rfl rfl)
theorem dX5_meets_56 : decode cX5_meets 56 = .ok (.aload_n 0, 1) := dk_42 (dk_at dksX5_meets_2 9 rfl rfl)
theorem dX5_meets_57 : decode cX5_meets 57 = .ok (.getfield 15, 3) := dk_180 0 15 (dk_at dksX5_meets_2 10 rfl rfl)
theorem dX5_meets_60 : decode cX5_meets 60 = .ok (.iload_n 3, 1) := dk_29 (dk_at dksX5_meets_2 13 rfl rfl)
theorem dX5_meets_61 : decode cX5_meets 61 = .ok (.iaload, 1) := dk_46 (dk_at dksX5_meets_2 14 rfl rfl)
theorem dX5_meets_62 : decode cX5_meets 62 = .ok (.istore 4, 2) := dk_54 4 (dk_at dksX5_meets_2 15 rfl rfl)
theorem dX5_meets_64 : decode cX5_meets 64 = .ok (.aload_n 0, 1) := dk_42 (dk_at dksX5_meets_2 17 rfl rfl)
theorem dX5_meets_65 : decode cX5_meets 65 = .ok (.getfield 3, 3) := dk_180 0 3 (dk_at dksX5_meets_2 18 rfl rfl)
theorem dX5_meets_68 : decode cX5_meets 68 = .ok (.getfield 50, 3) := dk_180 0 50 (dk_at dksX5_meets_2 21 rfl rfl)
theorem dX5_meets_71 : decode cX5_meets 71 = .ok (.getfield 54, 3) := dk_180 0 54 (dk_at dksX5_meets_3 0 rfl rfl)
theorem dX5_meets_74 : decode cX5_meets 74 = .ok (.iload_n 1, 1) := dk_27 (dk_at dksX5_meets_3 3 rfl rfl)
theorem dX5_meets_75 : decode cX5_meets 75 = .ok (.laload, 1) := dk_47 (dk_at dksX5_meets_3 4 rfl rfl)
theorem dX5_meets_76 : decode cX5_meets 76 = .ok (.aload_n 0, 1) := dk_42 (dk_at dksX5_meets_3 5 rfl rfl)
theorem dX5_meets_77 : decode cX5_meets 77 = .ok (.getfield 3, 3) := dk_180 0 3 (dk_at dksX5_meets_3 6 rfl rfl)
theorem dX5_meets_80 : decode cX5_meets 80 = .ok (.getfield 50, 3) := dk_180 0 50 (dk_at dksX5_meets_3 9 rfl rfl)
theorem dX5_meets_83 : decode cX5_meets 83 = .ok (.getfield 54, 3) := dk_180 0 54 (dk_at dksX5_meets_3 12 rfl rfl)
theorem dX5_meets_86 : decode cX5_meets 86 = .ok (.iload 4, 2) := dk_21 4 (dk_at dksX5_meets_3 15 rfl rfl)
theorem dX5_meets_88 : decode cX5_meets 88 = .ok (.laload, 1) := dk_47 (dk_at dksX5_meets_3 17 rfl rfl)
theorem dX5_meets_89 : decode cX5_meets 89 = .ok (.land, 1) := dk_127 (dk_at dksX5_meets_3 18 rfl rfl)
theorem dX5_meets_90 : decode cX5_meets 90 = .ok (.aload_n 0, 1) := dk_42 (dk_at dksX5_meets_3 19 rfl rfl)
theorem dX5_meets_91 : decode cX5_meets 91 = .ok (.getfield 66, 3) := dk_180 0 66 (dk_at dksX5_meets_3 20 rfl rfl)
theorem dX5_meets_94 : decode cX5_meets 94 = .ok (.land, 1) := dk_127 (dk_at dksX5_meets_3 23 rfl rfl)
theorem dX5_meets_95 : decode cX5_meets 95 = .ok (.lconst 0, 1) := dk_9 (dk_at dksX5_meets_4 0 rfl rfl)
theorem dX5_meets_96 : decode cX5_meets 96 = .ok (.lcmp, 1) := dk_148 (dk_at dksX5_meets_4 1 rfl rfl)
theorem dX5_meets_97 : decode cX5_meets 97 = .ok (.ifCond .eq 9, 3) := dk_153 0 9 (dk_at dksX5_meets_4 2 rfl rfl)
theorem dX5_meets_100 : decode cX5_meets 100 = .ok (.iinc 3 1, 3) := dk_132 3 1 (dk_at dksX5_meets_4 5 rfl rfl)
theorem dX5_meets_103 : decode cX5_meets 103 = .ok (.goto (-65), 3) := dk_167 255 191 (dk_at dksX5_meets_4 8 rfl rfl)
theorem dX5_meets_106 : decode cX5_meets 106 = .ok (.aload_n 0, 1) := dk_42 (dk_at dksX5_meets_4 11 rfl rfl)
theorem dX5_meets_107 : decode cX5_meets 107 = .ok (.iload_n 1, 1) := dk_27 (dk_at dksX5_meets_4 12 rfl rfl)
theorem dX5_meets_108 : decode cX5_meets 108 = .ok (.iload 4, 2) := dk_21 4 (dk_at dksX5_meets_4 13 rfl rfl)
theorem dX5_meets_110 : decode cX5_meets 110 = .ok (.iload_n 2, 1) := dk_28 (dk_at dksX5_meets_4 15 rfl rfl)
theorem dX5_meets_111 : decode cX5_meets 111 = .ok (.invokevirtual 89, 3) := dk_182 0 89 (dk_at dksX5_meets_4 16 rfl rfl)
theorem dX5_meets_114 : decode cX5_meets 114 = .ok (.istore 5, 2) := dk_54 5 (dk_at dksX5_meets_4 19 rfl rfl)
theorem dX5_meets_116 : decode cX5_meets 116 = .ok (.iload 5, 2) := dk_21 5 (dk_at dksX5_meets_4 21 rfl rfl)
theorem dX5_meets_118 : decode cX5_meets 118 = .ok (.iconst 2, 1) := dk_5 (dk_at dksX5_meets_4 23 rfl rfl)
theorem dX5_meets_119 : decode cX5_meets 119 = .ok (.if_icmp .eq 11, 3) := dk_159 0 11 (dk_at dksX5_meets_5 0 rfl rfl)
theorem dX5_meets_122 : decode cX5_meets 122 = .ok (.aload_n 0, 1) := dk_42 (dk_at dksX5_meets_5 3 rfl rfl)
theorem dX5_meets_123 : decode cX5_meets 123 = .ok (.iload_n 1, 1) := dk_27 (dk_at dksX5_meets_5 4 rfl rfl)
theorem dX5_meets_124 : decode cX5_meets 124 = .ok (.iload_n 2, 1) := dk_28 (dk_at dksX5_meets_5 5 rfl rfl)
theorem dX5_meets_125 : decode cX5_meets 125 = .ok (.iload 4, 2) := dk_21 4 (dk_at dksX5_meets_5 6 rfl rfl)
theorem dX5_meets_127 : decode cX5_meets 127 = .ok (.invokevirtual 93, 3) := dk_182 0 93 (dk_at dksX5_meets_5 8 rfl rfl)
theorem dX5_meets_130 : decode cX5_meets 130 = .ok (.iload 5, 2) := dk_21 5 (dk_at dksX5_meets_5 11 rfl rfl)
theorem dX5_meets_132 : decode cX5_meets 132 = .ok (.iconst 1, 1) := dk_4 (dk_at dksX5_meets_5 13 rfl rfl)
theorem dX5_meets_133 : decode cX5_meets 133 = .ok (.if_icmp .ne 4, 3) := dk_160 0 4 (dk_at dksX5_meets_5 14 rfl rfl)
theorem dX5_meets_136 : decode cX5_meets 136 = .ok (.return_, 1) := dk_177 (dk_at dksX5_meets_5 17 rfl rfl)
theorem dX5_meets_137 : decode cX5_meets 137 = .ok (.aload_n 0, 1) := dk_42 (dk_at dksX5_meets_5 18 rfl rfl)
theorem dX5_meets_138 : decode cX5_meets 138 = .ok (.iload 4, 2) := dk_21 4 (dk_at dksX5_meets_5 19 rfl rfl)
theorem dX5_meets_140 : decode cX5_meets 140 = .ok (.iload_n 2, 1) := dk_28 (dk_at dksX5_meets_5 21 rfl rfl)
theorem dX5_meets_141 : decode cX5_meets 141 = .ok (.iload_n 1, 1) := dk_27 (dk_at dksX5_meets_5 22 rfl rfl)
theorem dX5_meets_142 : decode cX5_meets 142 = .ok (.invokevirtual 93, 3) := dk_182 0 93 (dk_at dksX5_meets_6 0 rfl rfl)
theorem dX5_meets_145 : decode cX5_meets 145 = .ok (.aload_n 0, 1) := dk_42 (dk_at dksX5_meets_6 3 rfl rfl)
theorem dX5_meets_146 : decode cX5_meets 146 = .ok (.iload_n 3, 1) := dk_29 (dk_at dksX5_meets_6 4 rfl rfl)
theorem dX5_meets_147 : decode cX5_meets 147 = .ok (.invokevirtual 96, 3) := dk_182 0 96 (dk_at dksX5_meets_6 5 rfl rfl)
theorem dX5_meets_150 : decode cX5_meets 150 = .ok (.goto (-112), 3) := dk_167 255 144 (dk_at dksX5_meets_6 8 rfl rfl)
theorem dX5_meets_153 : decode cX5_meets 153 = .ok (.aload_n 0, 1) := dk_42 (dk_at dksX5_meets_6 11 rfl rfl)
theorem dX5_meets_154 : decode cX5_meets 154 = .ok (.getfield 22, 3) := dk_180 0 22 (dk_at dksX5_meets_6 12 rfl rfl)
theorem dX5_meets_157 : decode cX5_meets 157 = .ok (.iload_n 1, 1) := dk_27 (dk_at dksX5_meets_6 15 rfl rfl)
theorem dX5_meets_158 : decode cX5_meets 158 = .ok (.iaload, 1) := dk_46 (dk_at dksX5_meets_6 16 rfl rfl)
theorem dX5_meets_159 : decode cX5_meets 159 = .ok (.iconst (-1), 1) := dk_2 (dk_at dksX5_meets_6 17 rfl rfl)
theorem dX5_meets_160 : decode cX5_meets 160 = .ok (.if_icmp .eq 4, 3) := dk_159 0 4 (dk_at dksX5_meets_6 18 rfl rfl)
theorem dX5_meets_163 : decode cX5_meets 163 = .ok (.return_, 1) := dk_177 (dk_at dksX5_meets_6 21 rfl rfl)
theorem dX5_meets_164 : decode cX5_meets 164 = .ok (.aload_n 0, 1) := dk_42 (dk_at dksX5_meets_6 22 rfl rfl)
theorem dX5_meets_165 : decode cX5_meets 165 = .ok (.getfield 15, 3) := dk_180 0 15 (dk_at dksX5_meets_7 0 rfl rfl)
theorem dX5_meets_168 : decode cX5_meets 168 = .ok (.aload_n 0, 1) := dk_42 (dk_at dksX5_meets_7 3 rfl rfl)
theorem dX5_meets_169 : decode cX5_meets 169 = .ok (.getfield 37, 3) := dk_180 0 37 (dk_at dksX5_meets_7 4 rfl rfl)
theorem dX5_meets_172 : decode cX5_meets 172 = .ok (.iload_n 1, 1) := dk_27 (dk_at dksX5_meets_7 7 rfl rfl)
theorem dX5_meets_173 : decode cX5_meets 173 = .ok (.iastore, 1) := dk_79 (dk_at dksX5_meets_7 8 rfl rfl)
theorem dX5_meets_174 : decode cX5_meets 174 = .ok (.aload_n 0, 1) := dk_42 (dk_at dksX5_meets_7 9 rfl rfl)
theorem dX5_meets_175 : decode cX5_meets 175 = .ok (.dup, 1) := dk_89 (dk_at dksX5_meets_7 10 rfl rfl)
theorem dX5_meets_176 : decode cX5_meets 176 = .ok (.getfield 37, 3) := dk_180 0 37 (dk_at dksX5_meets_7 11 rfl rfl)
theorem dX5_meets_179 : decode cX5_meets 179 = .ok (.iconst 1, 1) := dk_4 (dk_at dksX5_meets_7 14 rfl rfl)
theorem dX5_meets_180 : decode cX5_meets 180 = .ok (.iadd, 1) := dk_96 (dk_at dksX5_meets_7 15 rfl rfl)
theorem dX5_meets_181 : decode cX5_meets 181 = .ok (.putfield 37, 3) := dk_181 0 37 (dk_at dksX5_meets_7 16 rfl rfl)
theorem dX5_meets_184 : decode cX5_meets 184 = .ok (.return_, 1) := dk_177 (dk_at dksX5_meets_7 19 rfl rfl)
abbrev cX5_fallsOf : ByteArray := prog_10_method_6_code
def yX5_fallsOf : MethodName := ⟨RX5, "fallsOf", "(III)I"⟩
def dkwX5_fallsOf_4 : List UInt8 := [180, 0, 74, 42, 180, 0, 3, 180, 0, 78, 182, 0, 81, 172]
abbrev dktX5_fallsOf_4 : List UInt8 := dkwX5_fallsOf_4 ++ []
def dkwX5_fallsOf_3 : List UInt8 := [28, 46, 42, 180, 0, 31, 28, 46, 29, 42, 180, 0, 37, 42, 180, 0, 66, 182, 0, 70, 42, 180, 0, 3]
abbrev dktX5_fallsOf_3 : List UInt8 := dkwX5_fallsOf_3 ++ dktX5_fallsOf_4
def dkwX5_fallsOf_2 : List UInt8 := [28, 47, 184, 0, 60, 163, 0, 7, 4, 167, 0, 4, 5, 172, 42, 180, 0, 3, 28, 27, 42, 180, 0, 28]
abbrev dktX5_fallsOf_2 : List UInt8 := dkwX5_fallsOf_2 ++ dktX5_fallsOf_3
def dkwX5_fallsOf_1 : List UInt8 := [180, 0, 3, 180, 0, 50, 180, 0, 54, 27, 47, 184, 0, 60, 42, 180, 0, 3, 180, 0, 50, 180, 0, 54]
abbrev dktX5_fallsOf_1 : List UInt8 := dkwX5_fallsOf_1 ++ dktX5_fallsOf_2
def dkwX5_fallsOf_0 : List UInt8 := [42, 180, 0, 47, 5, 163, 0, 8, 42, 180, 0, 47, 172, 42, 180, 0, 47, 6, 160, 0, 42, 42]
abbrev dktX5_fallsOf_0 : List UInt8 := dkwX5_fallsOf_0 ++ dktX5_fallsOf_1
theorem dksX5_fallsOf_0 : cX5_fallsOf.data.toList.drop 0 = dktX5_fallsOf_0 := by decide +kernel
theorem dksX5_fallsOf_1 : cX5_fallsOf.data.toList.drop 22 = dktX5_fallsOf_1 := dk_seg dksX5_fallsOf_0 22 rfl rfl
theorem dksX5_fallsOf_2 : cX5_fallsOf.data.toList.drop 46 = dktX5_fallsOf_2 := dk_seg dksX5_fallsOf_1 24 rfl rfl
theorem dksX5_fallsOf_3 : cX5_fallsOf.data.toList.drop 70 = dktX5_fallsOf_3 := dk_seg dksX5_fallsOf_2 24 rfl rfl
theorem dksX5_fallsOf_4 : cX5_fallsOf.data.toList.drop 94 = dktX5_fallsOf_4 := dk_seg dksX5_fallsOf_3 24 rfl rfl
theorem dX5_fallsOf_0 : decode cX5_fallsOf 0 = .ok (.aload_n 0, 1) := dk_42 (dk_at dksX5_fallsOf_0 0 rfl rfl)
theorem dX5_fallsOf_1 : decode cX5_fallsOf 1 = .ok (.getfield 47, 3) := dk_180 0 47 (dk_at dksX5_fallsOf_0 1 rfl rfl)
theorem dX5_fallsOf_4 : decode cX5_fallsOf 4 = .ok (.iconst 2, 1) := dk_5 (dk_at dksX5_fallsOf_0 4 rfl rfl)
theorem dX5_fallsOf_5 : decode cX5_fallsOf 5 = .ok (.if_icmp .gt 8, 3) := dk_163 0 8 (dk_at dksX5_fallsOf_0 5 rfl rfl)
theorem dX5_fallsOf_8 : decode cX5_fallsOf 8 = .ok (.aload_n 0, 1) := dk_42 (dk_at dksX5_fallsOf_0 8 rfl rfl)
theorem dX5_fallsOf_9 : decode cX5_fallsOf 9 = .ok (.getfield 47, 3) := dk_180 0 47 (dk_at dksX5_fallsOf_0 9 rfl rfl)
theorem dX5_fallsOf_12 : decode cX5_fallsOf 12 = .ok (.ireturn, 1) := dk_172 (dk_at dksX5_fallsOf_0 12 rfl rfl)
theorem dX5_fallsOf_13 : decode cX5_fallsOf 13 = .ok (.aload_n 0, 1) := dk_42 (dk_at dksX5_fallsOf_0 13 rfl rfl)
theorem dX5_fallsOf_14 : decode cX5_fallsOf 14 = .ok (.getfield 47, 3) := dk_180 0 47 (dk_at dksX5_fallsOf_0 14 rfl rfl)
theorem dX5_fallsOf_17 : decode cX5_fallsOf 17 = .ok (.iconst 3, 1) := dk_6 (dk_at dksX5_fallsOf_0 17 rfl rfl)
theorem dX5_fallsOf_18 : decode cX5_fallsOf 18 = .ok (.if_icmp .ne 42, 3) := dk_160 0 42 (dk_at dksX5_fallsOf_0 18 rfl rfl)
theorem dX5_fallsOf_21 : decode cX5_fallsOf 21 = .ok (.aload_n 0, 1) := dk_42 (dk_at dksX5_fallsOf_0 21 rfl rfl)
theorem dX5_fallsOf_22 : decode cX5_fallsOf 22 = .ok (.getfield 3, 3) := dk_180 0 3 (dk_at dksX5_fallsOf_1 0 rfl rfl)
theorem dX5_fallsOf_25 : decode cX5_fallsOf 25 = .ok (.getfield 50, 3) := dk_180 0 50 (dk_at dksX5_fallsOf_1 3 rfl rfl)
theorem dX5_fallsOf_28 : decode cX5_fallsOf 28 = .ok (.getfield 54, 3) := dk_180 0 54 (dk_at dksX5_fallsOf_1 6 rfl rfl)
theorem dX5_fallsOf_31 : decode cX5_fallsOf 31 = .ok (.iload_n 1, 1) := dk_27 (dk_at dksX5_fallsOf_1 9 rfl rfl)
theorem dX5_fallsOf_32 : decode cX5_fallsOf 32 = .ok (.laload, 1) := dk_47 (dk_at dksX5_fallsOf_1 10 rfl rfl)
theorem dX5_fallsOf_33 : decode cX5_fallsOf 33 = .ok (.invokestatic 60, 3) := dk_184 0 60 (dk_at dksX5_fallsOf_1 11 rfl rfl)
theorem dX5_fallsOf_36 : decode cX5_fallsOf 36 = .ok (.aload_n 0, 1) := dk_42 (dk_at dksX5_fallsOf_1 14 rfl rfl)
theorem dX5_fallsOf_37 : decode cX5_fallsOf 37 = .ok (.getfield 3, 3) := dk_180 0 3 (dk_at dksX5_fallsOf_1 15 rfl rfl)
theorem dX5_fallsOf_40 : decode cX5_fallsOf 40 = .ok (.getfield 50, 3) := dk_180 0 50 (dk_at dksX5_fallsOf_1 18 rfl rfl)
theorem dX5_fallsOf_43 : decode cX5_fallsOf 43 = .ok (.getfield 54, 3) := dk_180 0 54 (dk_at dksX5_fallsOf_1 21 rfl rfl)
theorem dX5_fallsOf_46 : decode cX5_fallsOf 46 = .ok (.iload_n 2, 1) := dk_28 (dk_at dksX5_fallsOf_2 0 rfl rfl)
theorem dX5_fallsOf_47 : decode cX5_fallsOf 47 = .ok (.laload, 1) := dk_47 (dk_at dksX5_fallsOf_2 1 rfl rfl)
theorem dX5_fallsOf_48 : decode cX5_fallsOf 48 = .ok (.invokestatic 60, 3) := dk_184 0 60 (dk_at dksX5_fallsOf_2 2 rfl rfl)
theorem dX5_fallsOf_51 : decode cX5_fallsOf 51 = .ok (.if_icmp .gt 7, 3) := dk_163 0 7 (dk_at dksX5_fallsOf_2 5 rfl rfl)
theorem dX5_fallsOf_54 : decode cX5_fallsOf 54 = .ok (.iconst 1, 1) := dk_4 (dk_at dksX5_fallsOf_2 8 rfl rfl)
theorem dX5_fallsOf_55 : decode cX5_fallsOf 55 = .ok (.goto 4, 3) := dk_167 0 4 (dk_at dksX5_fallsOf_2 9 rfl rfl)
theorem dX5_fallsOf_58 : decode cX5_fallsOf 58 = .ok (.iconst 2, 1) := dk_5 (dk_at dksX5_fallsOf_2 12 rfl rfl)
theorem dX5_fallsOf_59 : decode cX5_fallsOf 59 = .ok (.ireturn, 1) := dk_172 (dk_at dksX5_fallsOf_2 13 rfl rfl)
theorem dX5_fallsOf_60 : decode cX5_fallsOf 60 = .ok (.aload_n 0, 1) := dk_42 (dk_at dksX5_fallsOf_2 14 rfl rfl)
theorem dX5_fallsOf_61 : decode cX5_fallsOf 61 = .ok (.getfield 3, 3) := dk_180 0 3 (dk_at dksX5_fallsOf_2 15 rfl rfl)
theorem dX5_fallsOf_64 : decode cX5_fallsOf 64 = .ok (.iload_n 2, 1) := dk_28 (dk_at dksX5_fallsOf_2 18 rfl rfl)
theorem dX5_fallsOf_65 : decode cX5_fallsOf 65 = .ok (.iload_n 1, 1) := dk_27 (dk_at dksX5_fallsOf_2 19 rfl rfl)
theorem dX5_fallsOf_66 : decode cX5_fallsOf 66 = .ok (.aload_n 0, 1) := dk_42 (dk_at dksX5_fallsOf_2 20 rfl rfl)
theorem dX5_fallsOf_67 : decode cX5_fallsOf 67 = .ok (.getfield 28, 3) := dk_180 0 28 (dk_at dksX5_fallsOf_2 21 rfl rfl)
theorem dX5_fallsOf_70 : decode cX5_fallsOf 70 = .ok (.iload_n 2, 1) := dk_28 (dk_at dksX5_fallsOf_3 0 rfl rfl)
theorem dX5_fallsOf_71 : decode cX5_fallsOf 71 = .ok (.iaload, 1) := dk_46 (dk_at dksX5_fallsOf_3 1 rfl rfl)
theorem dX5_fallsOf_72 : decode cX5_fallsOf 72 = .ok (.aload_n 0, 1) := dk_42 (dk_at dksX5_fallsOf_3 2 rfl rfl)
theorem dX5_fallsOf_73 : decode cX5_fallsOf 73 = .ok (.getfield 31, 3) := dk_180 0 31 (dk_at dksX5_fallsOf_3 3 rfl rfl)
theorem dX5_fallsOf_76 : decode cX5_fallsOf 76 = .ok (.iload_n 2, 1) := dk_28 (dk_at dksX5_fallsOf_3 6 rfl rfl)
theorem dX5_fallsOf_77 : decode cX5_fallsOf 77 = .ok (.iaload, 1) := dk_46 (dk_at dksX5_fallsOf_3 7 rfl rfl)
theorem dX5_fallsOf_78 : decode cX5_fallsOf 78 = .ok (.iload_n 3, 1) := dk_29 (dk_at dksX5_fallsOf_3 8 rfl rfl)
theorem dX5_fallsOf_79 : decode cX5_fallsOf 79 = .ok (.aload_n 0, 1) := dk_42 (dk_at dksX5_fallsOf_3 9 rfl rfl)
theorem dX5_fallsOf_80 : decode cX5_fallsOf 80 = .ok (.getfield 37, 3) := dk_180 0 37 (dk_at dksX5_fallsOf_3 10 rfl rfl)
theorem dX5_fallsOf_83 : decode cX5_fallsOf 83 = .ok (.aload_n 0, 1) := dk_42 (dk_at dksX5_fallsOf_3 13 rfl rfl)
theorem dX5_fallsOf_84 : decode cX5_fallsOf 84 = .ok (.getfield 66, 3) := dk_180 0 66 (dk_at dksX5_fallsOf_3 14 rfl rfl)
theorem dX5_fallsOf_87 : decode cX5_fallsOf 87 = .ok (.invokevirtual 70, 3) := dk_182 0 70 (dk_at dksX5_fallsOf_3 17 rfl rfl)
theorem dX5_fallsOf_90 : decode cX5_fallsOf 90 = .ok (.aload_n 0, 1) := dk_42 (dk_at dksX5_fallsOf_3 20 rfl rfl)
theorem dX5_fallsOf_91 : decode cX5_fallsOf 91 = .ok (.getfield 3, 3) := dk_180 0 3 (dk_at dksX5_fallsOf_3 21 rfl rfl)
theorem dX5_fallsOf_94 : decode cX5_fallsOf 94 = .ok (.getfield 74, 3) := dk_180 0 74 (dk_at dksX5_fallsOf_4 0 rfl rfl)
theorem dX5_fallsOf_97 : decode cX5_fallsOf 97 = .ok (.aload_n 0, 1) := dk_42 (dk_at dksX5_fallsOf_4 3 rfl rfl)
theorem dX5_fallsOf_98 : decode cX5_fallsOf 98 = .ok (.getfield 3, 3) := dk_180 0 3 (dk_at dksX5_fallsOf_4 4 rfl rfl)
theorem dX5_fallsOf_101 : decode cX5_fallsOf 101 = .ok (.getfield 78, 3) := dk_180 0 78 (dk_at dksX5_fallsOf_4 7 rfl rfl)
theorem dX5_fallsOf_104 : decode cX5_fallsOf 104 = .ok (.invokevirtual 81, 3) := dk_182 0 81 (dk_at dksX5_fallsOf_4 10 rfl rfl)
theorem dX5_fallsOf_107 : decode cX5_fallsOf 107 = .ok (.ireturn, 1) := dk_172 (dk_at dksX5_fallsOf_4 13 rfl rfl)
abbrev cX5_falls : ByteArray := prog_10_method_5_code
def yX5_falls : MethodName := ⟨RX5, "falls", "(III)V"⟩
def dkwX5_falls_1 : List UInt8 := [177]
abbrev dktX5_falls_1 : List UInt8 := dkwX5_falls_1 ++ []
def dkwX5_falls_0 : List UInt8 := [42, 180, 0, 22, 27, 28, 79, 42, 180, 0, 25, 27, 29, 79, 42, 89, 180, 0, 41, 4, 96, 181, 0, 41]
abbrev dktX5_falls_0 : List UInt8 := dkwX5_falls_0 ++ dktX5_falls_1
theorem dksX5_falls_0 : cX5_falls.data.toList.drop 0 = dktX5_falls_0 := by decide +kernel
theorem dksX5_falls_1 : cX5_falls.data.toList.drop 24 = dktX5_falls_1 := dk_seg dksX5_falls_0 24 rfl rfl
theorem dX5_falls_0 : decode cX5_falls 0 = .ok (.aload_n 0, 1) := dk_42 (dk_at dksX5_falls_0 0 rfl rfl)
theorem dX5_falls_1 : decode cX5_falls 1 = .ok (.getfield 22, 3) := dk_180 0 22 (dk_at dksX5_falls_0 1 rfl rfl)
theorem dX5_falls_4 : decode cX5_falls 4 = .ok (.iload_n 1, 1) := dk_27 (dk_at dksX5_falls_0 4 rfl rfl)
theorem dX5_falls_5 : decode cX5_falls 5 = .ok (.iload_n 2, 1) := dk_28 (dk_at dksX5_falls_0 5 rfl rfl)
theorem dX5_falls_6 : decode cX5_falls 6 = .ok (.iastore, 1) := dk_79 (dk_at dksX5_falls_0 6 rfl rfl)
theorem dX5_falls_7 : decode cX5_falls 7 = .ok (.aload_n 0, 1) := dk_42 (dk_at dksX5_falls_0 7 rfl rfl)
theorem dX5_falls_8 : decode cX5_falls 8 = .ok (.getfield 25, 3) := dk_180 0 25 (dk_at dksX5_falls_0 8 rfl rfl)
theorem dX5_falls_11 : decode cX5_falls 11 = .ok (.iload_n 1, 1) := dk_27 (dk_at dksX5_falls_0 11 rfl rfl)
theorem dX5_falls_12 : decode cX5_falls 12 = .ok (.iload_n 3, 1) := dk_29 (dk_at dksX5_falls_0 12 rfl rfl)
theorem dX5_falls_13 : decode cX5_falls 13 = .ok (.iastore, 1) := dk_79 (dk_at dksX5_falls_0 13 rfl rfl)
theorem dX5_falls_14 : decode cX5_falls 14 = .ok (.aload_n 0, 1) := dk_42 (dk_at dksX5_falls_0 14 rfl rfl)
theorem dX5_falls_15 : decode cX5_falls 15 = .ok (.dup, 1) := dk_89 (dk_at dksX5_falls_0 15 rfl rfl)
theorem dX5_falls_16 : decode cX5_falls 16 = .ok (.getfield 41, 3) := dk_180 0 41 (dk_at dksX5_falls_0 16 rfl rfl)
theorem dX5_falls_19 : decode cX5_falls 19 = .ok (.iconst 1, 1) := dk_4 (dk_at dksX5_falls_0 19 rfl rfl)
theorem dX5_falls_20 : decode cX5_falls 20 = .ok (.iadd, 1) := dk_96 (dk_at dksX5_falls_0 20 rfl rfl)
theorem dX5_falls_21 : decode cX5_falls 21 = .ok (.putfield 41, 3) := dk_181 0 41 (dk_at dksX5_falls_0 21 rfl rfl)
theorem dX5_falls_24 : decode cX5_falls 24 = .ok (.return_, 1) := dk_177 (dk_at dksX5_falls_1 0 rfl rfl)
abbrev cX5_end : ByteArray := prog_10_method_9_code
def yX5_end : MethodName := ⟨RX5, "end", "()I"⟩
def dkwX5_end_0 : List UInt8 := [42, 180, 0, 34, 16, 51, 46, 172]
abbrev dktX5_end_0 : List UInt8 := dkwX5_end_0 ++ []
theorem dksX5_end_0 : cX5_end.data.toList.drop 0 = dktX5_end_0 := by decide +kernel
theorem dX5_end_0 : decode cX5_end 0 = .ok (.aload_n 0, 1) := dk_42 (dk_at dksX5_end_0 0 rfl rfl)
theorem dX5_end_1 : decode cX5_end 1 = .ok (.getfield 34, 3) := dk_180 0 34 (dk_at dksX5_end_0 1 rfl rfl)
theorem dX5_end_4 : decode cX5_end 4 = .ok (.bipush 51, 2) := dk_16 51 (dk_at dksX5_end_0 4 rfl rfl)
theorem dX5_end_6 : decode cX5_end 6 = .ok (.iaload, 1) := dk_46 (dk_at dksX5_end_0 6 rfl rfl)
theorem dX5_end_7 : decode cX5_end 7 = .ok (.ireturn, 1) := dk_172 (dk_at dksX5_end_0 7 rfl rfl)
abbrev cX5_worlds : ByteArray := prog_10_method_10_code
def yX5_worlds : MethodName := ⟨RX5, "worlds", "()J"⟩
def dkwX5_worlds_1 : List UInt8 := [180, 0, 54, 42, 180, 0, 15, 29, 46, 47, 127, 64, 132, 3, 1, 167, 255, 225, 31, 173]
abbrev dktX5_worlds_1 : List UInt8 := dkwX5_worlds_1 ++ []
def dkwX5_worlds_0 : List UInt8 := [42, 180, 0, 66, 64, 3, 62, 29, 42, 180, 0, 37, 162, 0, 29, 31, 42, 180, 0, 3, 180, 0, 50]
abbrev dktX5_worlds_0 : List UInt8 := dkwX5_worlds_0 ++ dktX5_worlds_1
theorem dksX5_worlds_0 : cX5_worlds.data.toList.drop 0 = dktX5_worlds_0 := by decide +kernel
theorem dksX5_worlds_1 : cX5_worlds.data.toList.drop 23 = dktX5_worlds_1 := dk_seg dksX5_worlds_0 23 rfl rfl
theorem dX5_worlds_0 : decode cX5_worlds 0 = .ok (.aload_n 0, 1) := dk_42 (dk_at dksX5_worlds_0 0 rfl rfl)
theorem dX5_worlds_1 : decode cX5_worlds 1 = .ok (.getfield 66, 3) := dk_180 0 66 (dk_at dksX5_worlds_0 1 rfl rfl)
theorem dX5_worlds_4 : decode cX5_worlds 4 = .ok (.lstore_n 1, 1) := dk_64 (dk_at dksX5_worlds_0 4 rfl rfl)
theorem dX5_worlds_5 : decode cX5_worlds 5 = .ok (.iconst 0, 1) := dk_3 (dk_at dksX5_worlds_0 5 rfl rfl)
theorem dX5_worlds_6 : decode cX5_worlds 6 = .ok (.istore_n 3, 1) := dk_62 (dk_at dksX5_worlds_0 6 rfl rfl)
theorem dX5_worlds_7 : decode cX5_worlds 7 = .ok (.iload_n 3, 1) := dk_29 (dk_at dksX5_worlds_0 7 rfl rfl)
theorem dX5_worlds_8 : decode cX5_worlds 8 = .ok (.aload_n 0, 1) := dk_42 (dk_at dksX5_worlds_0 8 rfl rfl)
theorem dX5_worlds_9 : decode cX5_worlds 9 = .ok (.getfield 37, 3) := dk_180 0 37 (dk_at dksX5_worlds_0 9 rfl rfl)
theorem dX5_worlds_12 : decode cX5_worlds 12 = .ok (.if_icmp .ge 29, 3) := dk_162 0 29 (dk_at dksX5_worlds_0 12 rfl rfl)
theorem dX5_worlds_15 : decode cX5_worlds 15 = .ok (.lload_n 1, 1) := dk_31 (dk_at dksX5_worlds_0 15 rfl rfl)
theorem dX5_worlds_16 : decode cX5_worlds 16 = .ok (.aload_n 0, 1) := dk_42 (dk_at dksX5_worlds_0 16 rfl rfl)
theorem dX5_worlds_17 : decode cX5_worlds 17 = .ok (.getfield 3, 3) := dk_180 0 3 (dk_at dksX5_worlds_0 17 rfl rfl)
theorem dX5_worlds_20 : decode cX5_worlds 20 = .ok (.getfield 50, 3) := dk_180 0 50 (dk_at dksX5_worlds_0 20 rfl rfl)
theorem dX5_worlds_23 : decode cX5_worlds 23 = .ok (.getfield 54, 3) := dk_180 0 54 (dk_at dksX5_worlds_1 0 rfl rfl)
theorem dX5_worlds_26 : decode cX5_worlds 26 = .ok (.aload_n 0, 1) := dk_42 (dk_at dksX5_worlds_1 3 rfl rfl)
theorem dX5_worlds_27 : decode cX5_worlds 27 = .ok (.getfield 15, 3) := dk_180 0 15 (dk_at dksX5_worlds_1 4 rfl rfl)
theorem dX5_worlds_30 : decode cX5_worlds 30 = .ok (.iload_n 3, 1) := dk_29 (dk_at dksX5_worlds_1 7 rfl rfl)
theorem dX5_worlds_31 : decode cX5_worlds 31 = .ok (.iaload, 1) := dk_46 (dk_at dksX5_worlds_1 8 rfl rfl)
theorem dX5_worlds_32 : decode cX5_worlds 32 = .ok (.laload, 1) := dk_47 (dk_at dksX5_worlds_1 9 rfl rfl)
theorem dX5_worlds_33 : decode cX5_worlds 33 = .ok (.land, 1) := dk_127 (dk_at dksX5_worlds_1 10 rfl rfl)
theorem dX5_worlds_34 : decode cX5_worlds 34 = .ok (.lstore_n 1, 1) := dk_64 (dk_at dksX5_worlds_1 11 rfl rfl)
theorem dX5_worlds_35 : decode cX5_worlds 35 = .ok (.iinc 3 1, 3) := dk_132 3 1 (dk_at dksX5_worlds_1 12 rfl rfl)
theorem dX5_worlds_38 : decode cX5_worlds 38 = .ok (.goto (-31), 3) := dk_167 255 225 (dk_at dksX5_worlds_1 15 rfl rfl)
theorem dX5_worlds_41 : decode cX5_worlds 41 = .ok (.lload_n 1, 1) := dk_31 (dk_at dksX5_worlds_1 18 rfl rfl)
theorem dX5_worlds_42 : decode cX5_worlds 42 = .ok (.lreturn, 1) := dk_173 (dk_at dksX5_worlds_1 19 rfl rfl)
theorem q148 : (Jvm.Cond.initialized "LotBeliefs$School") ∈ lw_all := lw_g (lw_at lw_m1 24 rfl) rfl
theorem q530 : (Jvm.Cond.fieldLinkNest "LotBeliefs$School" (54 : Nat) "LotBeliefs$Jar" "models" "[J" "LotBeliefs") ∈ lw_tbl := lw_at lw_m2 166 rfl
theorem q604 : (Jvm.Cond.instantiable "LotBeliefs$School" (13 : Nat)) ∈ lw_all := lw_g (lw_at lw_m3 0 rfl) rfl
theorem q606 : (Jvm.Cond.instanceMethod ({ cls := "LotBeliefs$School", name := "<init>", desc := "(LLotBeliefs;)V" } : Jvm.MethodName)) ∈ lw_all := lw_g (lw_at lw_m3 2 rfl) rfl
theorem q607 : (Jvm.Cond.code ({ cls := "LotBeliefs$School", name := "<init>", desc := "(LLotBeliefs;)V" } : Jvm.MethodName) prog_10_method_1_code (2 : Nat) (Option.none : Option Jvm.ClassFile.FieldType)) ∈ lw_all := lw_g (lw_at lw_m3 3 rfl) rfl
theorem q608 : (Jvm.Cond.methodLink "LotBeliefs$School" (9 : Nat) ({ cls := "java/lang/Object", name := "<init>", desc := "()V" } : Jvm.MethodName)) ∈ lw_all := lw_g (lw_at lw_m3 4 rfl) rfl
theorem q609 : (Jvm.Cond.fieldLink "LotBeliefs$School" (15 : Nat) "LotBeliefs$School" "chairs" "[I") ∈ lw_all := lw_g (lw_at lw_m3 5 rfl) rfl
theorem q610 : (Jvm.Cond.fieldLink "LotBeliefs$School" (19 : Nat) "LotBeliefs$School" "drawn" "[I") ∈ lw_all := lw_g (lw_at lw_m3 6 rfl) rfl
theorem q612 : (Jvm.Cond.fieldLink "LotBeliefs$School" (22 : Nat) "LotBeliefs$School" "fell" "[I") ∈ lw_all := lw_g (lw_at lw_m3 8 rfl) rfl
theorem q614 : (Jvm.Cond.fieldLink "LotBeliefs$School" (25 : Nat) "LotBeliefs$School" "by" "[I") ∈ lw_all := lw_g (lw_at lw_m3 10 rfl) rfl
theorem q616 : (Jvm.Cond.fieldLink "LotBeliefs$School" (28 : Nat) "LotBeliefs$School" "weeks" "[I") ∈ lw_all := lw_g (lw_at lw_m3 12 rfl) rfl
theorem q618 : (Jvm.Cond.fieldLink "LotBeliefs$School" (31 : Nat) "LotBeliefs$School" "hurts" "[I") ∈ lw_all := lw_g (lw_at lw_m3 14 rfl) rfl
theorem q620 : (Jvm.Cond.fieldLink "LotBeliefs$School" (34 : Nat) "LotBeliefs$School" "heldIn" "[I") ∈ lw_all := lw_g (lw_at lw_m3 16 rfl) rfl
theorem q622 : (Jvm.Cond.fieldLink "LotBeliefs$School" (37 : Nat) "LotBeliefs$School" "many" "I") ∈ lw_all := lw_g (lw_at lw_m3 18 rfl) rfl
theorem q623 : (Jvm.Cond.fieldLink "LotBeliefs$School" (41 : Nat) "LotBeliefs$School" "falls" "I") ∈ lw_all := lw_g (lw_at lw_m3 19 rfl) rfl
theorem q625 : (Jvm.Cond.fieldLink "LotBeliefs$School" (44 : Nat) "LotBeliefs$School" "kills" "I") ∈ lw_all := lw_g (lw_at lw_m3 21 rfl) rfl
theorem q627 : (Jvm.Cond.fieldLink "LotBeliefs$School" (47 : Nat) "LotBeliefs$School" "lawNow" "I") ∈ lw_all := lw_g (lw_at lw_m3 23 rfl) rfl
theorem q628 : (Jvm.Cond.fieldLink "LotBeliefs$School" (66 : Nat) "LotBeliefs$School" "left" "J") ∈ lw_all := lw_g (lw_at lw_m3 24 rfl) rfl
theorem q629 : (Jvm.Cond.fieldLink "LotBeliefs$School" (3 : Nat) "LotBeliefs$School" "this$0" "LLotBeliefs;") ∈ lw_all := lw_g (lw_at lw_m3 25 rfl) rfl
theorem q630 : (Jvm.Cond.laysFinal "LotBeliefs$School" "LotBeliefs$School" "chairs" "[I") ∈ lw_all := lw_g (lw_at lw_m3 26 rfl) rfl
theorem q631 : (Jvm.Cond.soleField "LotBeliefs$School" "chairs") ∈ lw_all := lw_g (lw_at lw_m3 27 rfl) rfl
theorem q632 : (Jvm.Cond.laysFinal "LotBeliefs$School" "LotBeliefs$School" "drawn" "[I") ∈ lw_all := lw_g (lw_at lw_m3 28 rfl) rfl
theorem q633 : (Jvm.Cond.soleField "LotBeliefs$School" "drawn") ∈ lw_all := lw_g (lw_at lw_m3 29 rfl) rfl
theorem q634 : (Jvm.Cond.laysFinal "LotBeliefs$School" "LotBeliefs$School" "fell" "[I") ∈ lw_all := lw_g (lw_at lw_m3 30 rfl) rfl
theorem q635 : (Jvm.Cond.soleField "LotBeliefs$School" "fell") ∈ lw_all := lw_g (lw_at lw_m3 31 rfl) rfl
theorem q636 : (Jvm.Cond.laysFinal "LotBeliefs$School" "LotBeliefs$School" "by" "[I") ∈ lw_all := lw_g (lw_at lw_m3 32 rfl) rfl
theorem q637 : (Jvm.Cond.soleField "LotBeliefs$School" "by") ∈ lw_all := lw_g (lw_at lw_m3 33 rfl) rfl
theorem q638 : (Jvm.Cond.laysFinal "LotBeliefs$School" "LotBeliefs$School" "weeks" "[I") ∈ lw_all := lw_g (lw_at lw_m3 34 rfl) rfl
theorem q639 : (Jvm.Cond.soleField "LotBeliefs$School" "weeks") ∈ lw_all := lw_g (lw_at lw_m3 35 rfl) rfl
theorem q640 : (Jvm.Cond.laysFinal "LotBeliefs$School" "LotBeliefs$School" "hurts" "[I") ∈ lw_all := lw_g (lw_at lw_m3 36 rfl) rfl
theorem q641 : (Jvm.Cond.soleField "LotBeliefs$School" "hurts") ∈ lw_all := lw_g (lw_at lw_m3 37 rfl) rfl
theorem q642 : (Jvm.Cond.laysFinal "LotBeliefs$School" "LotBeliefs$School" "heldIn" "[I") ∈ lw_all := lw_g (lw_at lw_m3 38 rfl) rfl
theorem q643 : (Jvm.Cond.soleField "LotBeliefs$School" "heldIn") ∈ lw_all := lw_g (lw_at lw_m3 39 rfl) rfl
theorem q644 : (Jvm.Cond.lays "LotBeliefs$School" "LotBeliefs$School" "many" "I") ∈ lw_all := lw_g (lw_at lw_m3 40 rfl) rfl
theorem q645 : (Jvm.Cond.soleField "LotBeliefs$School" "many") ∈ lw_all := lw_g (lw_at lw_m3 41 rfl) rfl
theorem q646 : (Jvm.Cond.lays "LotBeliefs$School" "LotBeliefs$School" "falls" "I") ∈ lw_all := lw_g (lw_at lw_m3 42 rfl) rfl
theorem q647 : (Jvm.Cond.soleField "LotBeliefs$School" "falls") ∈ lw_all := lw_g (lw_at lw_m3 43 rfl) rfl
theorem q648 : (Jvm.Cond.lays "LotBeliefs$School" "LotBeliefs$School" "kills" "I") ∈ lw_all := lw_g (lw_at lw_m3 44 rfl) rfl
theorem q649 : (Jvm.Cond.soleField "LotBeliefs$School" "kills") ∈ lw_all := lw_g (lw_at lw_m3 45 rfl) rfl
theorem q650 : (Jvm.Cond.lays "LotBeliefs$School" "LotBeliefs$School" "lawNow" "I") ∈ lw_all := lw_g (lw_at lw_m3 46 rfl) rfl
theorem q651 : (Jvm.Cond.soleField "LotBeliefs$School" "lawNow") ∈ lw_all := lw_g (lw_at lw_m3 47 rfl) rfl
theorem q652 : (Jvm.Cond.lays "LotBeliefs$School" "LotBeliefs$School" "left" "J") ∈ lw_all := lw_g (lw_at lw_m3 48 rfl) rfl
theorem q653 : (Jvm.Cond.soleField "LotBeliefs$School" "left") ∈ lw_all := lw_g (lw_at lw_m3 49 rfl) rfl
theorem q654 : (Jvm.Cond.laysFinal "LotBeliefs$School" "LotBeliefs$School" "this$0" "LLotBeliefs;") ∈ lw_all := lw_g (lw_at lw_m3 50 rfl) rfl
theorem q655 : (Jvm.Cond.soleField "LotBeliefs$School" "this$0") ∈ lw_all := lw_g (lw_at lw_m3 51 rfl) rfl
theorem q656 : (Jvm.Cond.superclass "LotBeliefs$School" "java/lang/Object") ∈ lw_all := lw_g (lw_at lw_m3 52 rfl) rfl
theorem q695 : (Jvm.Cond.fieldLinkNest "LotBeliefs$School" (50 : Nat) "LotBeliefs" "jar" "LLotBeliefs$Jar;" "LotBeliefs") ∈ lw_tbl := lw_at lw_m3 91 rfl
theorem q697 : (Jvm.Cond.fieldLinkNest "LotBeliefs$School" (74 : Nat) "LotBeliefs" "tongue" "LLotBeliefs$Tongue;" "LotBeliefs") ∈ lw_tbl := lw_at lw_m3 93 rfl
theorem q699 : (Jvm.Cond.fieldLinkNest "LotBeliefs$School" (78 : Nat) "LotBeliefs" "facts" "[I" "LotBeliefs") ∈ lw_tbl := lw_at lw_m3 95 rfl
theorem q702 : (Jvm.Cond.fieldLinkNest "LotBeliefs$School" (100 : Nat) "LotBeliefs" "lefts" "[J" "LotBeliefs") ∈ lw_tbl := lw_at lw_m3 98 rfl
theorem q837 : (Jvm.Cond.instanceMethod ({ cls := "LotBeliefs$School", name := "begins", desc := "(I)LLotBeliefs$School;" } : Jvm.MethodName)) ∈ lw_all := lw_g (lw_at lw_m3 233 rfl) rfl
theorem q838 : (Jvm.Cond.selects "LotBeliefs$School" ({ cls := "LotBeliefs$School", name := "begins", desc := "(I)LLotBeliefs$School;" } : Jvm.MethodName) ({ cls := "LotBeliefs$School", name := "begins", desc := "(I)LLotBeliefs$School;" } : Jvm.MethodName)) ∈ lw_all := lw_g (lw_at lw_m3 234 rfl) rfl
theorem q839 : (Jvm.Cond.code ({ cls := "LotBeliefs$School", name := "begins", desc := "(I)LLotBeliefs$School;" } : Jvm.MethodName) prog_10_method_2_code (3 : Nat) (Option.some (Jvm.ClassFile.FieldType.object "LotBeliefs$School"))) ∈ lw_all := lw_g (lw_at lw_m3 235 rfl) rfl
theorem q841 : (Jvm.Cond.instanceMethod ({ cls := "LotBeliefs$School", name := "goes", desc := "(II)V" } : Jvm.MethodName)) ∈ lw_all := lw_g (lw_at lw_m3 237 rfl) rfl
theorem q842 : (Jvm.Cond.selects "LotBeliefs$School" ({ cls := "LotBeliefs$School", name := "goes", desc := "(II)V" } : Jvm.MethodName) ({ cls := "LotBeliefs$School", name := "goes", desc := "(II)V" } : Jvm.MethodName)) ∈ lw_all := lw_g (lw_at lw_m3 238 rfl) rfl
theorem q843 : (Jvm.Cond.code ({ cls := "LotBeliefs$School", name := "goes", desc := "(II)V" } : Jvm.MethodName) prog_10_method_8_code (5 : Nat) (Option.none : Option Jvm.ClassFile.FieldType)) ∈ lw_all := lw_g (lw_at lw_m3 239 rfl) rfl
theorem q844 : (Jvm.Cond.methodLink "LotBeliefs$School" (86 : Nat) ({ cls := "LotBeliefs$School", name := "kills", desc := "(II)V" } : Jvm.MethodName)) ∈ lw_all := lw_g (lw_at lw_m4 0 rfl) rfl
theorem q845 : (Jvm.Cond.privateMethod ({ cls := "LotBeliefs$School", name := "kills", desc := "(II)V" } : Jvm.MethodName)) ∈ lw_tbl := lw_at lw_m4 1 rfl
theorem q846 : (Jvm.Cond.instanceMethod ({ cls := "LotBeliefs$School", name := "kills", desc := "(II)V" } : Jvm.MethodName)) ∈ lw_all := lw_g (lw_at lw_m4 2 rfl) rfl
theorem q847 : (Jvm.Cond.code ({ cls := "LotBeliefs$School", name := "kills", desc := "(II)V" } : Jvm.MethodName) prog_10_method_4_code (3 : Nat) (Option.none : Option Jvm.ClassFile.FieldType)) ∈ lw_all := lw_g (lw_at lw_m4 3 rfl) rfl
theorem q848 : (Jvm.Cond.methodLink "LotBeliefs$School" (96 : Nat) ({ cls := "LotBeliefs$School", name := "leaves", desc := "(I)V" } : Jvm.MethodName)) ∈ lw_all := lw_g (lw_at lw_m4 4 rfl) rfl
theorem q849 : (Jvm.Cond.privateMethod ({ cls := "LotBeliefs$School", name := "leaves", desc := "(I)V" } : Jvm.MethodName)) ∈ lw_tbl := lw_at lw_m4 5 rfl
theorem q850 : (Jvm.Cond.instanceMethod ({ cls := "LotBeliefs$School", name := "leaves", desc := "(I)V" } : Jvm.MethodName)) ∈ lw_all := lw_g (lw_at lw_m4 6 rfl) rfl
theorem q851 : (Jvm.Cond.code ({ cls := "LotBeliefs$School", name := "leaves", desc := "(I)V" } : Jvm.MethodName) prog_10_method_3_code (3 : Nat) (Option.none : Option Jvm.ClassFile.FieldType)) ∈ lw_all := lw_g (lw_at lw_m4 7 rfl) rfl
theorem q852 : (Jvm.Cond.methodLink "LotBeliefs$School" (103 : Nat) ({ cls := "LotBeliefs$School", name := "meets", desc := "(II)V" } : Jvm.MethodName)) ∈ lw_all := lw_g (lw_at lw_m4 8 rfl) rfl
theorem q853 : (Jvm.Cond.privateMethod ({ cls := "LotBeliefs$School", name := "meets", desc := "(II)V" } : Jvm.MethodName)) ∈ lw_tbl := lw_at lw_m4 9 rfl
theorem q854 : (Jvm.Cond.instanceMethod ({ cls := "LotBeliefs$School", name := "meets", desc := "(II)V" } : Jvm.MethodName)) ∈ lw_all := lw_g (lw_at lw_m4 10 rfl) rfl
theorem q855 : (Jvm.Cond.code ({ cls := "LotBeliefs$School", name := "meets", desc := "(II)V" } : Jvm.MethodName) prog_10_method_7_code (6 : Nat) (Option.none : Option Jvm.ClassFile.FieldType)) ∈ lw_all := lw_g (lw_at lw_m4 11 rfl) rfl
theorem q856 : (Jvm.Cond.methodLink "LotBeliefs$School" (89 : Nat) ({ cls := "LotBeliefs$School", name := "fallsOf", desc := "(III)I" } : Jvm.MethodName)) ∈ lw_all := lw_g (lw_at lw_m4 12 rfl) rfl
theorem q857 : (Jvm.Cond.privateMethod ({ cls := "LotBeliefs$School", name := "fallsOf", desc := "(III)I" } : Jvm.MethodName)) ∈ lw_tbl := lw_at lw_m4 13 rfl
theorem q858 : (Jvm.Cond.instanceMethod ({ cls := "LotBeliefs$School", name := "fallsOf", desc := "(III)I" } : Jvm.MethodName)) ∈ lw_all := lw_g (lw_at lw_m4 14 rfl) rfl
theorem q859 : (Jvm.Cond.code ({ cls := "LotBeliefs$School", name := "fallsOf", desc := "(III)I" } : Jvm.MethodName) prog_10_method_6_code (4 : Nat) (Option.some Jvm.ClassFile.FieldType.int)) ∈ lw_all := lw_g (lw_at lw_m4 15 rfl) rfl
theorem q860 : (Jvm.Cond.methodLink "LotBeliefs$School" (60 : Nat) ({ cls := "java/lang/Long", name := "bitCount", desc := "(J)I" } : Jvm.MethodName)) ∈ lw_all := lw_g (lw_at lw_m4 16 rfl) rfl
theorem q866 : (Jvm.Cond.methodLinkNest "LotBeliefs$School" (70 : Nat) ({ cls := "LotBeliefs", name := "tells", desc := "(IIIIIIJ)V" } : Jvm.MethodName) "LotBeliefs") ∈ lw_tbl := lw_at lw_m4 22 rfl
theorem q871 : (Jvm.Cond.methodLink "LotBeliefs$School" (81 : Nat) ({ cls := "LotBeliefs$Tongue", name := "falls", desc := "([I)I" } : Jvm.MethodName)) ∈ lw_all := lw_g (lw_at lw_m4 27 rfl) rfl
theorem q916 : (Jvm.Cond.methodLink "LotBeliefs$School" (93 : Nat) ({ cls := "LotBeliefs$School", name := "falls", desc := "(III)V" } : Jvm.MethodName)) ∈ lw_all := lw_g (lw_at lw_m4 72 rfl) rfl
theorem q917 : (Jvm.Cond.privateMethod ({ cls := "LotBeliefs$School", name := "falls", desc := "(III)V" } : Jvm.MethodName)) ∈ lw_tbl := lw_at lw_m4 73 rfl
theorem q918 : (Jvm.Cond.instanceMethod ({ cls := "LotBeliefs$School", name := "falls", desc := "(III)V" } : Jvm.MethodName)) ∈ lw_all := lw_g (lw_at lw_m4 74 rfl) rfl
theorem q919 : (Jvm.Cond.code ({ cls := "LotBeliefs$School", name := "falls", desc := "(III)V" } : Jvm.MethodName) prog_10_method_5_code (4 : Nat) (Option.none : Option Jvm.ClassFile.FieldType)) ∈ lw_all := lw_g (lw_at lw_m4 75 rfl) rfl
theorem q920 : (Jvm.Cond.methodLinkNest "LotBeliefs$School" (106 : Nat) ({ cls := "LotBeliefs", name := "isTrue", desc := "(I)Z" } : Jvm.MethodName) "LotBeliefs") ∈ lw_tbl := lw_at lw_m4 76 rfl
theorem q922 : (Jvm.Cond.instanceMethod ({ cls := "LotBeliefs$School", name := "end", desc := "()I" } : Jvm.MethodName)) ∈ lw_all := lw_g (lw_at lw_m4 78 rfl) rfl
theorem q923 : (Jvm.Cond.selects "LotBeliefs$School" ({ cls := "LotBeliefs$School", name := "end", desc := "()I" } : Jvm.MethodName) ({ cls := "LotBeliefs$School", name := "end", desc := "()I" } : Jvm.MethodName)) ∈ lw_all := lw_g (lw_at lw_m4 79 rfl) rfl
theorem q924 : (Jvm.Cond.code ({ cls := "LotBeliefs$School", name := "end", desc := "()I" } : Jvm.MethodName) prog_10_method_9_code (1 : Nat) (Option.some Jvm.ClassFile.FieldType.int)) ∈ lw_all := lw_g (lw_at lw_m4 80 rfl) rfl
theorem q1293 : (Jvm.Cond.selects "LotBeliefs$School" ({ cls := "java/lang/Object", name := "getClass", desc := "()Ljava/lang/Class;" } : Jvm.MethodName) ({ cls := "java/lang/Object", name := "getClass", desc := "()Ljava/lang/Class;" } : Jvm.MethodName)) ∈ lw_all := lw_g (lw_at lw_m5 209 rfl) rfl
theorem q1683 : (Jvm.Cond.instanceMethod ({ cls := "LotBeliefs$School", name := "worlds", desc := "()J" } : Jvm.MethodName)) ∈ lw_all := lw_g (lw_at lw_m7 119 rfl) rfl
theorem q1684 : (Jvm.Cond.selects "LotBeliefs$School" ({ cls := "LotBeliefs$School", name := "worlds", desc := "()J" } : Jvm.MethodName) ({ cls := "LotBeliefs$School", name := "worlds", desc := "()J" } : Jvm.MethodName)) ∈ lw_all := lw_g (lw_at lw_m7 120 rfl) rfl
theorem q1685 : (Jvm.Cond.code ({ cls := "LotBeliefs$School", name := "worlds", desc := "()J" } : Jvm.MethodName) prog_10_method_10_code (4 : Nat) (Option.some Jvm.ClassFile.FieldType.long)) ∈ lw_all := lw_g (lw_at lw_m7 121 rfl) rfl
theorem q2716 : (Jvm.Cond.castable "LotBeliefs$School" "java/lang/Object") ∈ lw_tbl := lw_at lw_m11 192 rfl

abbrev cX7_init : ByteArray := prog_8_method_1_code
def yX7_init : MethodName := ⟨RX7, "<init>", "([BILLotBeliefs$Jar;)V"⟩
def dkwX7_init_0 : List UInt8 := [42, 183, 0, 3, 42, 43, 181, 0, 9, 42, 28, 181, 0, 15, 42, 45, 181, 0, 19, 177]
abbrev dktX7_init_0 : List UInt8 := dkwX7_init_0 ++ []
theorem dksX7_init_0 : cX7_init.data.toList.drop 0 = dktX7_init_0 := by decide +kernel
theorem dX7_init_0 : decode cX7_init 0 = .ok (.aload_n 0, 1) := dk_42 (dk_at dksX7_init_0 0 rfl rfl)
theorem dX7_init_1 : decode cX7_init 1 = .ok (.invokespecial 3, 3) := dk_183 0 3 (dk_at dksX7_init_0 1 rfl rfl)
theorem dX7_init_4 : decode cX7_init 4 = .ok (.aload_n 0, 1) := dk_42 (dk_at dksX7_init_0 4 rfl rfl)
theorem dX7_init_5 : decode cX7_init 5 = .ok (.aload_n 1, 1) := dk_43 (dk_at dksX7_init_0 5 rfl rfl)
theorem dX7_init_6 : decode cX7_init 6 = .ok (.putfield 9, 3) := dk_181 0 9 (dk_at dksX7_init_0 6 rfl rfl)
theorem dX7_init_9 : decode cX7_init 9 = .ok (.aload_n 0, 1) := dk_42 (dk_at dksX7_init_0 9 rfl rfl)
theorem dX7_init_10 : decode cX7_init 10 = .ok (.iload_n 2, 1) := dk_28 (dk_at dksX7_init_0 10 rfl rfl)
theorem dX7_init_11 : decode cX7_init 11 = .ok (.putfield 15, 3) := dk_181 0 15 (dk_at dksX7_init_0 11 rfl rfl)
theorem dX7_init_14 : decode cX7_init 14 = .ok (.aload_n 0, 1) := dk_42 (dk_at dksX7_init_0 14 rfl rfl)
theorem dX7_init_15 : decode cX7_init 15 = .ok (.aload_n 3, 1) := dk_45 (dk_at dksX7_init_0 15 rfl rfl)
theorem dX7_init_16 : decode cX7_init 16 = .ok (.putfield 19, 3) := dk_181 0 19 (dk_at dksX7_init_0 16 rfl rfl)
theorem dX7_init_19 : decode cX7_init 19 = .ok (.return_, 1) := dk_177 (dk_at dksX7_init_0 19 rfl rfl)
abbrev cX7_reads : ByteArray := prog_8_method_7_code
def yX7_reads : MethodName := ⟨RX7, "reads", "()LLotBeliefs$Jar;"⟩
def dkwX7_reads_2 : List UInt8 := [167, 255, 213, 42, 180, 0, 19, 176]
abbrev dktX7_reads_2 : List UInt8 := dkwX7_reads_2 ++ []
def dkwX7_reads_1 : List UInt8 := [42, 16, 59, 182, 0, 69, 42, 180, 0, 19, 89, 180, 0, 73, 4, 96, 181, 0, 73, 42, 182, 0, 26, 87]
abbrev dktX7_reads_1 : List UInt8 := dkwX7_reads_1 ++ dktX7_reads_2
def dkwX7_reads_0 : List UInt8 := [42, 182, 0, 26, 87, 42, 180, 0, 23, 42, 180, 0, 15, 162, 0, 38, 42, 42, 182, 0, 62, 182, 0, 65]
abbrev dktX7_reads_0 : List UInt8 := dkwX7_reads_0 ++ dktX7_reads_1
theorem dksX7_reads_0 : cX7_reads.data.toList.drop 0 = dktX7_reads_0 := by decide +kernel
theorem dksX7_reads_1 : cX7_reads.data.toList.drop 24 = dktX7_reads_1 := dk_seg dksX7_reads_0 24 rfl rfl
theorem dksX7_reads_2 : cX7_reads.data.toList.drop 48 = dktX7_reads_2 := dk_seg dksX7_reads_1 24 rfl rfl
theorem dX7_reads_0 : decode cX7_reads 0 = .ok (.aload_n 0, 1) := dk_42 (dk_at dksX7_reads_0 0 rfl rfl)
theorem dX7_reads_1 : decode cX7_reads 1 = .ok (.invokevirtual 26, 3) := dk_182 0 26 (dk_at dksX7_reads_0 1 rfl rfl)
theorem dX7_reads_4 : decode cX7_reads 4 = .ok (.pop, 1) := dk_87 (dk_at dksX7_reads_0 4 rfl rfl)
theorem dX7_reads_5 : decode cX7_reads 5 = .ok (.aload_n 0, 1) := dk_42 (dk_at dksX7_reads_0 5 rfl rfl)
theorem dX7_reads_6 : decode cX7_reads 6 = .ok (.getfield 23, 3) := dk_180 0 23 (dk_at dksX7_reads_0 6 rfl rfl)
theorem dX7_reads_9 : decode cX7_reads 9 = .ok (.aload_n 0, 1) := dk_42 (dk_at dksX7_reads_0 9 rfl rfl)
theorem dX7_reads_10 : decode cX7_reads 10 = .ok (.getfield 15, 3) := dk_180 0 15 (dk_at dksX7_reads_0 10 rfl rfl)
theorem dX7_reads_13 : decode cX7_reads 13 = .ok (.if_icmp .ge 38, 3) := dk_162 0 38 (dk_at dksX7_reads_0 13 rfl rfl)
theorem dX7_reads_16 : decode cX7_reads 16 = .ok (.aload_n 0, 1) := dk_42 (dk_at dksX7_reads_0 16 rfl rfl)
theorem dX7_reads_17 : decode cX7_reads 17 = .ok (.aload_n 0, 1) := dk_42 (dk_at dksX7_reads_0 17 rfl rfl)
theorem dX7_reads_18 : decode cX7_reads 18 = .ok (.invokevirtual 62, 3) := dk_182 0 62 (dk_at dksX7_reads_0 18 rfl rfl)
theorem dX7_reads_21 : decode cX7_reads 21 = .ok (.invokevirtual 65, 3) := dk_182 0 65 (dk_at dksX7_reads_0 21 rfl rfl)
theorem dX7_reads_24 : decode cX7_reads 24 = .ok (.aload_n 0, 1) := dk_42 (dk_at dksX7_reads_1 0 rfl rfl)
theorem dX7_reads_25 : decode cX7_reads 25 = .ok (.bipush 59, 2) := dk_16 59 (dk_at dksX7_reads_1 1 rfl rfl)
theorem dX7_reads_27 : decode cX7_reads 27 = .ok (.invokevirtual 69, 3) := dk_182 0 69 (dk_at dksX7_reads_1 3 rfl rfl)
theorem dX7_reads_30 : decode cX7_reads 30 = .ok (.aload_n 0, 1) := dk_42 (dk_at dksX7_reads_1 6 rfl rfl)
theorem dX7_reads_31 : decode cX7_reads 31 = .ok (.getfield 19, 3) := dk_180 0 19 (dk_at dksX7_reads_1 7 rfl rfl)
theorem dX7_reads_34 : decode cX7_reads 34 = .ok (.dup, 1) := dk_89 (dk_at dksX7_reads_1 10 rfl rfl)
theorem dX7_reads_35 : decode cX7_reads 35 = .ok (.getfield 73, 3) := dk_180 0 73 (dk_at dksX7_reads_1 11 rfl rfl)
theorem dX7_reads_38 : decode cX7_reads 38 = .ok (.iconst 1, 1) := dk_4 (dk_at dksX7_reads_1 14 rfl rfl)
theorem dX7_reads_39 : decode cX7_reads 39 = .ok (.iadd, 1) := dk_96 (dk_at dksX7_reads_1 15 rfl rfl)
theorem dX7_reads_40 : decode cX7_reads 40 = .ok (.putfield 73, 3) := dk_181 0 73 (dk_at dksX7_reads_1 16 rfl rfl)
theorem dX7_reads_43 : decode cX7_reads 43 = .ok (.aload_n 0, 1) := dk_42 (dk_at dksX7_reads_1 19 rfl rfl)
theorem dX7_reads_44 : decode cX7_reads 44 = .ok (.invokevirtual 26, 3) := dk_182 0 26 (dk_at dksX7_reads_1 20 rfl rfl)
theorem dX7_reads_47 : decode cX7_reads 47 = .ok (.pop, 1) := dk_87 (dk_at dksX7_reads_1 23 rfl rfl)
theorem dX7_reads_48 : decode cX7_reads 48 = .ok (.goto (-43), 3) := dk_167 255 213 (dk_at dksX7_reads_2 0 rfl rfl)
theorem dX7_reads_51 : decode cX7_reads 51 = .ok (.aload_n 0, 1) := dk_42 (dk_at dksX7_reads_2 3 rfl rfl)
theorem dX7_reads_52 : decode cX7_reads 52 = .ok (.getfield 19, 3) := dk_180 0 19 (dk_at dksX7_reads_2 4 rfl rfl)
theorem dX7_reads_55 : decode cX7_reads 55 = .ok (.areturn, 1) := dk_176 (dk_at dksX7_reads_2 7 rfl rfl)
abbrev cX7_sign : ByteArray := prog_8_method_2_code
def yX7_sign : MethodName := ⟨RX7, "sign", "()I"⟩
def dkwX7_sign_2 : List UInt8 := [162, 0, 15, 42, 180, 0, 9, 42, 180, 0, 23, 51, 167, 0, 4, 3, 172]
abbrev dktX7_sign_2 : List UInt8 := dkwX7_sign_2 ++ []
def dkwX7_sign_1 : List UInt8 := [160, 0, 16, 42, 89, 180, 0, 23, 4, 96, 181, 0, 23, 167, 255, 221, 42, 180, 0, 23, 42, 180, 0, 15]
abbrev dktX7_sign_1 : List UInt8 := dkwX7_sign_1 ++ dktX7_sign_2
def dkwX7_sign_0 : List UInt8 := [42, 180, 0, 23, 42, 180, 0, 15, 162, 0, 30, 42, 180, 0, 9, 42, 180, 0, 23, 51, 16, 32]
abbrev dktX7_sign_0 : List UInt8 := dkwX7_sign_0 ++ dktX7_sign_1
theorem dksX7_sign_0 : cX7_sign.data.toList.drop 0 = dktX7_sign_0 := by decide +kernel
theorem dksX7_sign_1 : cX7_sign.data.toList.drop 22 = dktX7_sign_1 := dk_seg dksX7_sign_0 22 rfl rfl
theorem dksX7_sign_2 : cX7_sign.data.toList.drop 46 = dktX7_sign_2 := dk_seg dksX7_sign_1 24 rfl rfl
theorem dX7_sign_0 : decode cX7_sign 0 = .ok (.aload_n 0, 1) := dk_42 (dk_at dksX7_sign_0 0 rfl rfl)
theorem dX7_sign_1 : decode cX7_sign 1 = .ok (.getfield 23, 3) := dk_180 0 23 (dk_at dksX7_sign_0 1 rfl rfl)
theorem dX7_sign_4 : decode cX7_sign 4 = .ok (.aload_n 0, 1) := dk_42 (dk_at dksX7_sign_0 4 rfl rfl)
theorem dX7_sign_5 : decode cX7_sign 5 = .ok (.getfield 15, 3) := dk_180 0 15 (dk_at dksX7_sign_0 5 rfl rfl)
theorem dX7_sign_8 : decode cX7_sign 8 = .ok (.if_icmp .ge 30, 3) := dk_162 0 30 (dk_at dksX7_sign_0 8 rfl rfl)
theorem dX7_sign_11 : decode cX7_sign 11 = .ok (.aload_n 0, 1) := dk_42 (dk_at dksX7_sign_0 11 rfl rfl)
theorem dX7_sign_12 : decode cX7_sign 12 = .ok (.getfield 9, 3) := dk_180 0 9 (dk_at dksX7_sign_0 12 rfl rfl)
theorem dX7_sign_15 : decode cX7_sign 15 = .ok (.aload_n 0, 1) := dk_42 (dk_at dksX7_sign_0 15 rfl rfl)
theorem dX7_sign_16 : decode cX7_sign 16 = .ok (.getfield 23, 3) := dk_180 0 23 (dk_at dksX7_sign_0 16 rfl rfl)
theorem dX7_sign_19 : decode cX7_sign 19 = .ok (.baload, 1) := dk_51 (dk_at dksX7_sign_0 19 rfl rfl)
theorem dX7_sign_20 : decode cX7_sign 20 = .ok (.bipush 32, 2) := dk_16 32 (dk_at dksX7_sign_0 20 rfl rfl)
theorem dX7_sign_22 : decode cX7_sign 22 = .ok (.if_icmp .ne 16, 3) := dk_160 0 16 (dk_at dksX7_sign_1 0 rfl rfl)
theorem dX7_sign_25 : decode cX7_sign 25 = .ok (.aload_n 0, 1) := dk_42 (dk_at dksX7_sign_1 3 rfl rfl)
theorem dX7_sign_26 : decode cX7_sign 26 = .ok (.dup, 1) := dk_89 (dk_at dksX7_sign_1 4 rfl rfl)
theorem dX7_sign_27 : decode cX7_sign 27 = .ok (.getfield 23, 3) := dk_180 0 23 (dk_at dksX7_sign_1 5 rfl rfl)
theorem dX7_sign_30 : decode cX7_sign 30 = .ok (.iconst 1, 1) := dk_4 (dk_at dksX7_sign_1 8 rfl rfl)
theorem dX7_sign_31 : decode cX7_sign 31 = .ok (.iadd, 1) := dk_96 (dk_at dksX7_sign_1 9 rfl rfl)
theorem dX7_sign_32 : decode cX7_sign 32 = .ok (.putfield 23, 3) := dk_181 0 23 (dk_at dksX7_sign_1 10 rfl rfl)
theorem dX7_sign_35 : decode cX7_sign 35 = .ok (.goto (-35), 3) := dk_167 255 221 (dk_at dksX7_sign_1 13 rfl rfl)
theorem dX7_sign_38 : decode cX7_sign 38 = .ok (.aload_n 0, 1) := dk_42 (dk_at dksX7_sign_1 16 rfl rfl)
theorem dX7_sign_39 : decode cX7_sign 39 = .ok (.getfield 23, 3) := dk_180 0 23 (dk_at dksX7_sign_1 17 rfl rfl)
theorem dX7_sign_42 : decode cX7_sign 42 = .ok (.aload_n 0, 1) := dk_42 (dk_at dksX7_sign_1 20 rfl rfl)
theorem dX7_sign_43 : decode cX7_sign 43 = .ok (.getfield 15, 3) := dk_180 0 15 (dk_at dksX7_sign_1 21 rfl rfl)
theorem dX7_sign_46 : decode cX7_sign 46 = .ok (.if_icmp .ge 15, 3) := dk_162 0 15 (dk_at dksX7_sign_2 0 rfl rfl)
theorem dX7_sign_49 : decode cX7_sign 49 = .ok (.aload_n 0, 1) := dk_42 (dk_at dksX7_sign_2 3 rfl rfl)
theorem dX7_sign_50 : decode cX7_sign 50 = .ok (.getfield 9, 3) := dk_180 0 9 (dk_at dksX7_sign_2 4 rfl rfl)
theorem dX7_sign_53 : decode cX7_sign 53 = .ok (.aload_n 0, 1) := dk_42 (dk_at dksX7_sign_2 7 rfl rfl)
theorem dX7_sign_54 : decode cX7_sign 54 = .ok (.getfield 23, 3) := dk_180 0 23 (dk_at dksX7_sign_2 8 rfl rfl)
theorem dX7_sign_57 : decode cX7_sign 57 = .ok (.baload, 1) := dk_51 (dk_at dksX7_sign_2 11 rfl rfl)
theorem dX7_sign_58 : decode cX7_sign 58 = .ok (.goto 4, 3) := dk_167 0 4 (dk_at dksX7_sign_2 12 rfl rfl)
theorem dX7_sign_61 : decode cX7_sign 61 = .ok (.iconst 0, 1) := dk_3 (dk_at dksX7_sign_2 15 rfl rfl)
theorem dX7_sign_62 : decode cX7_sign 62 = .ok (.ireturn, 1) := dk_172 (dk_at dksX7_sign_2 16 rfl rfl)
abbrev cX7_word : ByteArray := prog_8_method_3_code
def yX7_word : MethodName := ⟨RX7, "word", "()Ljava/lang/String;"⟩
def dkwX7_word_3 : List UInt8 := [132, 2, 1, 167, 255, 202, 43, 182, 0, 40, 176]
abbrev dktX7_word_3 : List UInt8 := dkwX7_word_3 ++ []
def dkwX7_word_2 : List UInt8 := [163, 0, 30, 43, 182, 0, 33, 16, 6, 162, 0, 21, 43, 42, 180, 0, 9, 28, 51, 146, 182, 0, 36, 87]
abbrev dktX7_word_2 : List UInt8 := dkwX7_word_2 ++ dktX7_word_3
def dkwX7_word_1 : List UInt8 := [162, 0, 52, 42, 180, 0, 9, 28, 51, 16, 97, 161, 0, 41, 42, 180, 0, 9, 28, 51, 16, 122]
abbrev dktX7_word_1 : List UInt8 := dkwX7_word_1 ++ dktX7_word_2
def dkwX7_word_0 : List UInt8 := [42, 182, 0, 26, 87, 187, 0, 30, 89, 183, 0, 32, 76, 42, 180, 0, 23, 61, 28, 42, 180, 0, 15]
abbrev dktX7_word_0 : List UInt8 := dkwX7_word_0 ++ dktX7_word_1
theorem dksX7_word_0 : cX7_word.data.toList.drop 0 = dktX7_word_0 := by decide +kernel
theorem dksX7_word_1 : cX7_word.data.toList.drop 23 = dktX7_word_1 := dk_seg dksX7_word_0 23 rfl rfl
theorem dksX7_word_2 : cX7_word.data.toList.drop 45 = dktX7_word_2 := dk_seg dksX7_word_1 22 rfl rfl
theorem dksX7_word_3 : cX7_word.data.toList.drop 69 = dktX7_word_3 := dk_seg dksX7_word_2 24 rfl rfl
theorem dX7_word_0 : decode cX7_word 0 = .ok (.aload_n 0, 1) := dk_42 (dk_at dksX7_word_0 0 rfl rfl)
theorem dX7_word_1 : decode cX7_word 1 = .ok (.invokevirtual 26, 3) := dk_182 0 26 (dk_at dksX7_word_0 1 rfl rfl)
theorem dX7_word_4 : decode cX7_word 4 = .ok (.pop, 1) := dk_87 (dk_at dksX7_word_0 4 rfl rfl)
theorem dX7_word_5 : decode cX7_word 5 = .ok (.new 30, 3) := dk_187 0 30 (dk_at dksX7_word_0 5 rfl rfl)
theorem dX7_word_8 : decode cX7_word 8 = .ok (.dup, 1) := dk_89 (dk_at dksX7_word_0 8 rfl rfl)
theorem dX7_word_9 : decode cX7_word 9 = .ok (.invokespecial 32, 3) := dk_183 0 32 (dk_at dksX7_word_0 9 rfl rfl)
theorem dX7_word_12 : decode cX7_word 12 = .ok (.astore_n 1, 1) := dk_76 (dk_at dksX7_word_0 12 rfl rfl)
theorem dX7_word_13 : decode cX7_word 13 = .ok (.aload_n 0, 1) := dk_42 (dk_at dksX7_word_0 13 rfl rfl)
theorem dX7_word_14 : decode cX7_word 14 = .ok (.getfield 23, 3) := dk_180 0 23 (dk_at dksX7_word_0 14 rfl rfl)
theorem dX7_word_17 : decode cX7_word 17 = .ok (.istore_n 2, 1) := dk_61 (dk_at dksX7_word_0 17 rfl rfl)
theorem dX7_word_18 : decode cX7_word 18 = .ok (.iload_n 2, 1) := dk_28 (dk_at dksX7_word_0 18 rfl rfl)
theorem dX7_word_19 : decode cX7_word 19 = .ok (.aload_n 0, 1) := dk_42 (dk_at dksX7_word_0 19 rfl rfl)
theorem dX7_word_20 : decode cX7_word 20 = .ok (.getfield 15, 3) := dk_180 0 15 (dk_at dksX7_word_0 20 rfl rfl)
theorem dX7_word_23 : decode cX7_word 23 = .ok (.if_icmp .ge 52, 3) := dk_162 0 52 (dk_at dksX7_word_1 0 rfl rfl)
theorem dX7_word_26 : decode cX7_word 26 = .ok (.aload_n 0, 1) := dk_42 (dk_at dksX7_word_1 3 rfl rfl)
theorem dX7_word_27 : decode cX7_word 27 = .ok (.getfield 9, 3) := dk_180 0 9 (dk_at dksX7_word_1 4 rfl rfl)
theorem dX7_word_30 : decode cX7_word 30 = .ok (.iload_n 2, 1) := dk_28 (dk_at dksX7_word_1 7 rfl rfl)
theorem dX7_word_31 : decode cX7_word 31 = .ok (.baload, 1) := dk_51 (dk_at dksX7_word_1 8 rfl rfl)
theorem dX7_word_32 : decode cX7_word 32 = .ok (.bipush 97, 2) := dk_16 97 (dk_at dksX7_word_1 9 rfl rfl)
theorem dX7_word_34 : decode cX7_word 34 = .ok (.if_icmp .lt 41, 3) := dk_161 0 41 (dk_at dksX7_word_1 11 rfl rfl)
theorem dX7_word_37 : decode cX7_word 37 = .ok (.aload_n 0, 1) := dk_42 (dk_at dksX7_word_1 14 rfl rfl)
theorem dX7_word_38 : decode cX7_word 38 = .ok (.getfield 9, 3) := dk_180 0 9 (dk_at dksX7_word_1 15 rfl rfl)
theorem dX7_word_41 : decode cX7_word 41 = .ok (.iload_n 2, 1) := dk_28 (dk_at dksX7_word_1 18 rfl rfl)
theorem dX7_word_42 : decode cX7_word 42 = .ok (.baload, 1) := dk_51 (dk_at dksX7_word_1 19 rfl rfl)
theorem dX7_word_43 : decode cX7_word 43 = .ok (.bipush 122, 2) := dk_16 122 (dk_at dksX7_word_1 20 rfl rfl)
theorem dX7_word_45 : decode cX7_word 45 = .ok (.if_icmp .gt 30, 3) := dk_163 0 30 (dk_at dksX7_word_2 0 rfl rfl)
theorem dX7_word_48 : decode cX7_word 48 = .ok (.aload_n 1, 1) := dk_43 (dk_at dksX7_word_2 3 rfl rfl)
theorem dX7_word_49 : decode cX7_word 49 = .ok (.invokevirtual 33, 3) := dk_182 0 33 (dk_at dksX7_word_2 4 rfl rfl)
theorem dX7_word_52 : decode cX7_word 52 = .ok (.bipush 6, 2) := dk_16 6 (dk_at dksX7_word_2 7 rfl rfl)
theorem dX7_word_54 : decode cX7_word 54 = .ok (.if_icmp .ge 21, 3) := dk_162 0 21 (dk_at dksX7_word_2 9 rfl rfl)
theorem dX7_word_57 : decode cX7_word 57 = .ok (.aload_n 1, 1) := dk_43 (dk_at dksX7_word_2 12 rfl rfl)
theorem dX7_word_58 : decode cX7_word 58 = .ok (.aload_n 0, 1) := dk_42 (dk_at dksX7_word_2 13 rfl rfl)
theorem dX7_word_59 : decode cX7_word 59 = .ok (.getfield 9, 3) := dk_180 0 9 (dk_at dksX7_word_2 14 rfl rfl)
theorem dX7_word_62 : decode cX7_word 62 = .ok (.iload_n 2, 1) := dk_28 (dk_at dksX7_word_2 17 rfl rfl)
theorem dX7_word_63 : decode cX7_word 63 = .ok (.baload, 1) := dk_51 (dk_at dksX7_word_2 18 rfl rfl)
theorem dX7_word_64 : decode cX7_word 64 = .ok (.i2c, 1) := dk_146 (dk_at dksX7_word_2 19 rfl rfl)
theorem dX7_word_65 : decode cX7_word 65 = .ok (.invokevirtual 36, 3) := dk_182 0 36 (dk_at dksX7_word_2 20 rfl rfl)
theorem dX7_word_68 : decode cX7_word 68 = .ok (.pop, 1) := dk_87 (dk_at dksX7_word_2 23 rfl rfl)
theorem dX7_word_69 : decode cX7_word 69 = .ok (.iinc 2 1, 3) := dk_132 2 1 (dk_at dksX7_word_3 0 rfl rfl)
theorem dX7_word_72 : decode cX7_word 72 = .ok (.goto (-54), 3) := dk_167 255 202 (dk_at dksX7_word_3 3 rfl rfl)
theorem dX7_word_75 : decode cX7_word 75 = .ok (.aload_n 1, 1) := dk_43 (dk_at dksX7_word_3 6 rfl rfl)
theorem dX7_word_76 : decode cX7_word 76 = .ok (.invokevirtual 40, 3) := dk_182 0 40 (dk_at dksX7_word_3 7 rfl rfl)
theorem dX7_word_79 : decode cX7_word 79 = .ok (.areturn, 1) := dk_176 (dk_at dksX7_word_3 10 rfl rfl)
abbrev cX7_clause : ByteArray := prog_8_method_9_code
def yX7_clause : MethodName := ⟨RX7, "clause", "(Ljava/lang/String;)V"⟩
def dkwX7_clause_23 : List UInt8 := [180, 0, 19, 42, 3, 7, 182, 0, 118, 181, 0, 144, 177]
abbrev dktX7_clause_23 : List UInt8 := dkwX7_clause_23 ++ []
def dkwX7_clause_22 : List UInt8 := [180, 0, 19, 42, 3, 42, 180, 0, 19, 182, 0, 139, 4, 100, 182, 0, 118, 181, 0, 142, 177, 42]
abbrev dktX7_clause_22 : List UInt8 := dkwX7_clause_22 ++ dktX7_clause_23
def dkwX7_clause_21 : List UInt8 := [180, 0, 104, 96, 42, 182, 0, 127, 80, 42, 180, 0, 19, 89, 180, 0, 104, 4, 96, 181, 0, 104, 177, 42]
abbrev dktX7_clause_21 : List UInt8 := dkwX7_clause_21 ++ dktX7_clause_22
def dkwX7_clause_20 : List UInt8 := [182, 0, 127, 183, 0, 133, 182, 0, 136, 87, 177, 42, 180, 0, 19, 180, 0, 123, 16, 12, 42, 180, 0, 19]
abbrev dktX7_clause_20 : List UInt8 := dkwX7_clause_20 ++ dktX7_clause_21
def dkwX7_clause_19 : List UInt8 := [177, 42, 3, 16, 51, 182, 0, 118, 54, 4, 42, 180, 0, 19, 180, 0, 96, 187, 0, 131, 89, 21, 4, 42]
abbrev dktX7_clause_19 : List UInt8 := dkwX7_clause_19 ++ dktX7_clause_20
def dkwX7_clause_18 : List UInt8 := [180, 0, 19, 180, 0, 93, 42, 182, 0, 127, 80, 42, 180, 0, 19, 89, 180, 0, 93, 4, 96, 181, 0, 93]
abbrev dktX7_clause_18 : List UInt8 := dkwX7_clause_18 ++ dktX7_clause_19
def dkwX7_clause_17 : List UInt8 := [42, 180, 0, 19, 42, 4, 16, 6, 182, 0, 118, 181, 0, 121, 177, 42, 180, 0, 19, 180, 0, 123, 42]
abbrev dktX7_clause_17 : List UInt8 := dkwX7_clause_17 ++ dktX7_clause_18
def dkwX7_clause_16 : List UInt8 := [170, 0, 0, 0, 0, 0, 0, 176, 0, 0, 0, 0, 0, 0, 0, 4, 0, 0, 0, 36, 0, 0, 0, 51, 0, 0, 0, 84, 0, 0, 0, 118, 0, 0, 0, 154]
abbrev dktX7_clause_16 : List UInt8 := dkwX7_clause_16 ++ dktX7_clause_17
def dkwX7_clause_15 : List UInt8 := [153, 0, 19, 6, 62, 167, 0, 14, 44, 18, 109, 182, 0, 85, 153, 0, 5, 7, 62, 29]
abbrev dktX7_clause_15 : List UInt8 := dkwX7_clause_15 ++ dktX7_clause_16
def dkwX7_clause_14 : List UInt8 := [62, 167, 0, 42, 44, 18, 89, 182, 0, 85, 153, 0, 33, 5, 62, 167, 0, 28, 44, 18, 91, 182, 0, 85]
abbrev dktX7_clause_14 : List UInt8 := dkwX7_clause_14 ++ dktX7_clause_15
def dkwX7_clause_13 : List UInt8 := [44, 18, 107, 182, 0, 85, 153, 0, 61, 3, 62, 167, 0, 56, 44, 18, 83, 182, 0, 85, 153, 0, 47, 4]
abbrev dktX7_clause_13 : List UInt8 := dkwX7_clause_13 ++ dktX7_clause_14
def dkwX7_clause_12 : List UInt8 := [171, 0, 0, 0, 0, 117, 0, 0, 0, 5, 0, 1, 188, 83, 0, 0, 0, 78, 0, 53, 192, 86, 0, 0, 0, 92, 0, 53, 233, 64, 0, 0, 0, 64, 5, 141, 81, 66, 0, 0, 0, 50, 6, 193, 27, 146, 0, 0, 0, 106]
abbrev dktX7_clause_12 : List UInt8 := dkwX7_clause_12 ++ dktX7_clause_13
def dkwX7_clause_11 : List UInt8 := [44, 182, 0, 78]
abbrev dktX7_clause_11 : List UInt8 := dkwX7_clause_11 ++ dktX7_clause_12
def dkwX7_clause_10 : List UInt8 := [180, 0, 23, 183, 0, 46, 191, 42, 89, 180, 0, 23, 43, 182, 0, 117, 96, 181, 0, 23, 43, 77, 2, 62]
abbrev dktX7_clause_10 : List UInt8 := dkwX7_clause_10 ++ dktX7_clause_11
def dkwX7_clause_9 : List UInt8 := [182, 0, 85, 153, 0, 26, 42, 180, 0, 19, 180, 0, 73, 158, 0, 16, 187, 0, 44, 89, 7, 42]
abbrev dktX7_clause_9 : List UInt8 := dkwX7_clause_9 ++ dktX7_clause_10
def dkwX7_clause_8 : List UInt8 := [182, 0, 113, 153, 0, 16, 187, 0, 44, 89, 6, 42, 180, 0, 23, 183, 0, 46, 191, 43, 18, 107]
abbrev dktX7_clause_8 : List UInt8 := dkwX7_clause_8 ++ dktX7_clause_9
def dkwX7_clause_7 : List UInt8 := [167, 0, 8, 42, 182, 0, 49, 191, 42, 180, 0, 19, 180, 0, 73, 16, 60, 159, 0, 11, 42, 43]
abbrev dktX7_clause_7 : List UInt8 := dkwX7_clause_7 ++ dktX7_clause_8
def dkwX7_clause_6 : List UInt8 := [170, 0, 0, 0, 0, 41, 0, 0, 0, 0, 0, 0, 0, 5, 0, 0, 0, 38, 0, 0, 0, 38, 0, 0, 0, 38, 0, 0, 0, 38, 0, 0, 0, 38, 0, 0, 0, 38]
abbrev dktX7_clause_6 : List UInt8 := dkwX7_clause_6 ++ dktX7_clause_7
def dkwX7_clause_5 : List UInt8 := [18, 111, 182, 0, 85, 153, 0, 5, 8, 62, 29]
abbrev dktX7_clause_5 : List UInt8 := dkwX7_clause_5 ++ dktX7_clause_6
def dkwX7_clause_4 : List UInt8 := [153, 0, 33, 6, 62, 167, 0, 28, 44, 18, 109, 182, 0, 85, 153, 0, 19, 7, 62, 167, 0, 14, 44]
abbrev dktX7_clause_4 : List UInt8 := dkwX7_clause_4 ++ dktX7_clause_5
def dkwX7_clause_3 : List UInt8 := [62, 167, 0, 56, 44, 18, 89, 182, 0, 85, 153, 0, 47, 5, 62, 167, 0, 42, 44, 18, 91, 182, 0, 85]
abbrev dktX7_clause_3 : List UInt8 := dkwX7_clause_3 ++ dktX7_clause_4
def dkwX7_clause_2 : List UInt8 := [44, 18, 107, 182, 0, 85, 153, 0, 75, 3, 62, 167, 0, 70, 44, 18, 83, 182, 0, 85, 153, 0, 61, 4]
abbrev dktX7_clause_2 : List UInt8 := dkwX7_clause_2 ++ dktX7_clause_3
def dkwX7_clause_1 : List UInt8 := [171, 0, 0, 0, 0, 0, 0, 141, 0, 0, 0, 6, 0, 1, 161, 162, 0, 0, 0, 130, 0, 1, 188, 83, 0, 0, 0, 88, 0, 53, 192, 86, 0, 0, 0, 102, 0, 53, 233, 64, 0, 0, 0, 74, 5, 141, 81, 66, 0, 0, 0, 60, 6, 193, 27, 146, 0, 0, 0, 116]
abbrev dktX7_clause_1 : List UInt8 := dkwX7_clause_1 ++ dktX7_clause_2
def dkwX7_clause_0 : List UInt8 := [43, 77, 2, 62, 44, 182, 0, 78]
abbrev dktX7_clause_0 : List UInt8 := dkwX7_clause_0 ++ dktX7_clause_1
theorem dksX7_clause_0 : cX7_clause.data.toList.drop 0 = dktX7_clause_0 := by decide +kernel
theorem dksX7_clause_1 : cX7_clause.data.toList.drop 8 = dktX7_clause_1 := dk_seg dksX7_clause_0 8 rfl rfl
theorem dksX7_clause_2 : cX7_clause.data.toList.drop 68 = dktX7_clause_2 := dk_seg dksX7_clause_1 60 rfl rfl
theorem dksX7_clause_3 : cX7_clause.data.toList.drop 92 = dktX7_clause_3 := dk_seg dksX7_clause_2 24 rfl rfl
theorem dksX7_clause_4 : cX7_clause.data.toList.drop 116 = dktX7_clause_4 := dk_seg dksX7_clause_3 24 rfl rfl
theorem dksX7_clause_5 : cX7_clause.data.toList.drop 139 = dktX7_clause_5 := dk_seg dksX7_clause_4 23 rfl rfl
theorem dksX7_clause_6 : cX7_clause.data.toList.drop 150 = dktX7_clause_6 := dk_seg dksX7_clause_5 11 rfl rfl
theorem dksX7_clause_7 : cX7_clause.data.toList.drop 188 = dktX7_clause_7 := dk_seg dksX7_clause_6 38 rfl rfl
theorem dksX7_clause_8 : cX7_clause.data.toList.drop 210 = dktX7_clause_8 := dk_seg dksX7_clause_7 22 rfl rfl
theorem dksX7_clause_9 : cX7_clause.data.toList.drop 232 = dktX7_clause_9 := dk_seg dksX7_clause_8 22 rfl rfl
theorem dksX7_clause_10 : cX7_clause.data.toList.drop 254 = dktX7_clause_10 := dk_seg dksX7_clause_9 22 rfl rfl
theorem dksX7_clause_11 : cX7_clause.data.toList.drop 278 = dktX7_clause_11 := dk_seg dksX7_clause_10 24 rfl rfl
theorem dksX7_clause_12 : cX7_clause.data.toList.drop 282 = dktX7_clause_12 := dk_seg dksX7_clause_11 4 rfl rfl
theorem dksX7_clause_13 : cX7_clause.data.toList.drop 332 = dktX7_clause_13 := dk_seg dksX7_clause_12 50 rfl rfl
theorem dksX7_clause_14 : cX7_clause.data.toList.drop 356 = dktX7_clause_14 := dk_seg dksX7_clause_13 24 rfl rfl
theorem dksX7_clause_15 : cX7_clause.data.toList.drop 380 = dktX7_clause_15 := dk_seg dksX7_clause_14 24 rfl rfl
theorem dksX7_clause_16 : cX7_clause.data.toList.drop 400 = dktX7_clause_16 := dk_seg dksX7_clause_15 20 rfl rfl
theorem dksX7_clause_17 : cX7_clause.data.toList.drop 436 = dktX7_clause_17 := dk_seg dksX7_clause_16 36 rfl rfl
theorem dksX7_clause_18 : cX7_clause.data.toList.drop 459 = dktX7_clause_18 := dk_seg dksX7_clause_17 23 rfl rfl
theorem dksX7_clause_19 : cX7_clause.data.toList.drop 483 = dktX7_clause_19 := dk_seg dksX7_clause_18 24 rfl rfl
theorem dksX7_clause_20 : cX7_clause.data.toList.drop 507 = dktX7_clause_20 := dk_seg dksX7_clause_19 24 rfl rfl
theorem dksX7_clause_21 : cX7_clause.data.toList.drop 531 = dktX7_clause_21 := dk_seg dksX7_clause_20 24 rfl rfl
theorem dksX7_clause_22 : cX7_clause.data.toList.drop 555 = dktX7_clause_22 := dk_seg dksX7_clause_21 24 rfl rfl
theorem dksX7_clause_23 : cX7_clause.data.toList.drop 577 = dktX7_clause_23 := dk_seg dksX7_clause_22 22 rfl rfl
theorem dX7_clause_0 : decode cX7_clause 0 = .ok (.aload_n 1, 1) := dk_43 (dk_at dksX7_clause_0 0 rfl rfl)
theorem dX7_clause_1 : decode cX7_clause 1 = .ok (.astore_n 2, 1) := dk_77 (dk_at dksX7_clause_0 1 rfl rfl)
theorem dX7_clause_2 : decode cX7_clause 2 = .ok (.iconst (-1), 1) := dk_2 (dk_at dksX7_clause_0 2 rfl rfl)
theorem dX7_clause_3 : decode cX7_clause 3 = .ok (.istore_n 3, 1) := dk_62 (dk_at dksX7_clause_0 3 rfl rfl)
theorem dX7_clause_4 : decode cX7_clause 4 = .ok (.aload_n 2, 1) := dk_44 (dk_at dksX7_clause_0 4 rfl rfl)
theorem dX7_clause_5 : decode cX7_clause 5 = .ok (.invokevirtual 78, 3) := dk_182 0 78 (dk_at dksX7_clause_0 5 rfl rfl)
theorem dX7_clause_8 : decode cX7_clause 8 = .ok (.lookupswitch 141 #[(106914, 130), (113747, 88), (3522646, 102), (3533120, 74), (93147458, 60), (113318802, 116)], 60) := by decide +kernel
theorem dX7_clause_68 : decode cX7_clause 68 = .ok (.aload_n 2, 1) := dk_44 (dk_at dksX7_clause_2 0 rfl rfl)
theorem dX7_clause_69 : decode cX7_clause 69 = .ok (.ldc 107, 2) := dk_18 107 (dk_at dksX7_clause_2 1 rfl rfl)
theorem dX7_clause_71 : decode cX7_clause 71 = .ok (.invokevirtual 85, 3) := dk_182 0 85 (dk_at dksX7_clause_2 3 rfl rfl)
theorem dX7_clause_74 : decode cX7_clause 74 = .ok (.ifCond .eq 75, 3) := dk_153 0 75 (dk_at dksX7_clause_2 6 rfl rfl)
theorem dX7_clause_77 : decode cX7_clause 77 = .ok (.iconst 0, 1) := dk_3 (dk_at dksX7_clause_2 9 rfl rfl)
theorem dX7_clause_78 : decode cX7_clause 78 = .ok (.istore_n 3, 1) := dk_62 (dk_at dksX7_clause_2 10 rfl rfl)
theorem dX7_clause_79 : decode cX7_clause 79 = .ok (.goto 70, 3) := dk_167 0 70 (dk_at dksX7_clause_2 11 rfl rfl)
theorem dX7_clause_82 : decode cX7_clause 82 = .ok (.aload_n 2, 1) := dk_44 (dk_at dksX7_clause_2 14 rfl rfl)
theorem dX7_clause_83 : decode cX7_clause 83 = .ok (.ldc 83, 2) := dk_18 83 (dk_at dksX7_clause_2 15 rfl rfl)
theorem dX7_clause_85 : decode cX7_clause 85 = .ok (.invokevirtual 85, 3) := dk_182 0 85 (dk_at dksX7_clause_2 17 rfl rfl)
theorem dX7_clause_88 : decode cX7_clause 88 = .ok (.ifCond .eq 61, 3) := dk_153 0 61 (dk_at dksX7_clause_2 20 rfl rfl)
theorem dX7_clause_91 : decode cX7_clause 91 = .ok (.iconst 1, 1) := dk_4 (dk_at dksX7_clause_2 23 rfl rfl)
theorem dX7_clause_92 : decode cX7_clause 92 = .ok (.istore_n 3, 1) := dk_62 (dk_at dksX7_clause_3 0 rfl rfl)
theorem dX7_clause_93 : decode cX7_clause 93 = .ok (.goto 56, 3) := dk_167 0 56 (dk_at dksX7_clause_3 1 rfl rfl)
theorem dX7_clause_96 : decode cX7_clause 96 = .ok (.aload_n 2, 1) := dk_44 (dk_at dksX7_clause_3 4 rfl rfl)
theorem dX7_clause_97 : decode cX7_clause 97 = .ok (.ldc 89, 2) := dk_18 89 (dk_at dksX7_clause_3 5 rfl rfl)
theorem dX7_clause_99 : decode cX7_clause 99 = .ok (.invokevirtual 85, 3) := dk_182 0 85 (dk_at dksX7_clause_3 7 rfl rfl)
theorem dX7_clause_102 : decode cX7_clause 102 = .ok (.ifCond .eq 47, 3) := dk_153 0 47 (dk_at dksX7_clause_3 10 rfl rfl)
theorem dX7_clause_105 : decode cX7_clause 105 = .ok (.iconst 2, 1) := dk_5 (dk_at dksX7_clause_3 13 rfl rfl)
theorem dX7_clause_106 : decode cX7_clause 106 = .ok (.istore_n 3, 1) := dk_62 (dk_at dksX7_clause_3 14 rfl rfl)
theorem dX7_clause_107 : decode cX7_clause 107 = .ok (.goto 42, 3) := dk_167 0 42 (dk_at dksX7_clause_3 15 rfl rfl)
theorem dX7_clause_110 : decode cX7_clause 110 = .ok (.aload_n 2, 1) := dk_44 (dk_at dksX7_clause_3 18 rfl rfl)
theorem dX7_clause_111 : decode cX7_clause 111 = .ok (.ldc 91, 2) := dk_18 91 (dk_at dksX7_clause_3 19 rfl rfl)
theorem dX7_clause_113 : decode cX7_clause 113 = .ok (.invokevirtual 85, 3) := dk_182 0 85 (dk_at dksX7_clause_3 21 rfl rfl)
theorem dX7_clause_116 : decode cX7_clause 116 = .ok (.ifCond .eq 33, 3) := dk_153 0 33 (dk_at dksX7_clause_4 0 rfl rfl)
theorem dX7_clause_119 : decode cX7_clause 119 = .ok (.iconst 3, 1) := dk_6 (dk_at dksX7_clause_4 3 rfl rfl)
theorem dX7_clause_120 : decode cX7_clause 120 = .ok (.istore_n 3, 1) := dk_62 (dk_at dksX7_clause_4 4 rfl rfl)
theorem dX7_clause_121 : decode cX7_clause 121 = .ok (.goto 28, 3) := dk_167 0 28 (dk_at dksX7_clause_4 5 rfl rfl)
theorem dX7_clause_124 : decode cX7_clause 124 = .ok (.aload_n 2, 1) := dk_44 (dk_at dksX7_clause_4 8 rfl rfl)
theorem dX7_clause_125 : decode cX7_clause 125 = .ok (.ldc 109, 2) := dk_18 109 (dk_at dksX7_clause_4 9 rfl rfl)
theorem dX7_clause_127 : decode cX7_clause 127 = .ok (.invokevirtual 85, 3) := dk_182 0 85 (dk_at dksX7_clause_4 11 rfl rfl)
theorem dX7_clause_130 : decode cX7_clause 130 = .ok (.ifCond .eq 19, 3) := dk_153 0 19 (dk_at dksX7_clause_4 14 rfl rfl)
theorem dX7_clause_133 : decode cX7_clause 133 = .ok (.iconst 4, 1) := dk_7 (dk_at dksX7_clause_4 17 rfl rfl)
theorem dX7_clause_134 : decode cX7_clause 134 = .ok (.istore_n 3, 1) := dk_62 (dk_at dksX7_clause_4 18 rfl rfl)
theorem dX7_clause_135 : decode cX7_clause 135 = .ok (.goto 14, 3) := dk_167 0 14 (dk_at dksX7_clause_4 19 rfl rfl)
theorem dX7_clause_138 : decode cX7_clause 138 = .ok (.aload_n 2, 1) := dk_44 (dk_at dksX7_clause_4 22 rfl rfl)
theorem dX7_clause_139 : decode cX7_clause 139 = .ok (.ldc 111, 2) := dk_18 111 (dk_at dksX7_clause_5 0 rfl rfl)
theorem dX7_clause_141 : decode cX7_clause 141 = .ok (.invokevirtual 85, 3) := dk_182 0 85 (dk_at dksX7_clause_5 2 rfl rfl)
theorem dX7_clause_144 : decode cX7_clause 144 = .ok (.ifCond .eq 5, 3) := dk_153 0 5 (dk_at dksX7_clause_5 5 rfl rfl)
theorem dX7_clause_147 : decode cX7_clause 147 = .ok (.iconst 5, 1) := dk_8 (dk_at dksX7_clause_5 8 rfl rfl)
theorem dX7_clause_148 : decode cX7_clause 148 = .ok (.istore_n 3, 1) := dk_62 (dk_at dksX7_clause_5 9 rfl rfl)
theorem dX7_clause_149 : decode cX7_clause 149 = .ok (.iload_n 3, 1) := dk_29 (dk_at dksX7_clause_5 10 rfl rfl)
theorem dX7_clause_150 : decode cX7_clause 150 = .ok (.tableswitch 41 0 5 #[38, 38, 38, 38, 38, 38], 38) := by decide +kernel
theorem dX7_clause_188 : decode cX7_clause 188 = .ok (.goto 8, 3) := dk_167 0 8 (dk_at dksX7_clause_7 0 rfl rfl)
theorem dX7_clause_191 : decode cX7_clause 191 = .ok (.aload_n 0, 1) := dk_42 (dk_at dksX7_clause_7 3 rfl rfl)
theorem dX7_clause_192 : decode cX7_clause 192 = .ok (.invokevirtual 49, 3) := dk_182 0 49 (dk_at dksX7_clause_7 4 rfl rfl)
theorem dX7_clause_195 : decode cX7_clause 195 = .ok (.athrow, 1) := dk_191 (dk_at dksX7_clause_7 7 rfl rfl)
theorem dX7_clause_196 : decode cX7_clause 196 = .ok (.aload_n 0, 1) := dk_42 (dk_at dksX7_clause_7 8 rfl rfl)
theorem dX7_clause_197 : decode cX7_clause 197 = .ok (.getfield 19, 3) := dk_180 0 19 (dk_at dksX7_clause_7 9 rfl rfl)
theorem dX7_clause_200 : decode cX7_clause 200 = .ok (.getfield 73, 3) := dk_180 0 73 (dk_at dksX7_clause_7 12 rfl rfl)
theorem dX7_clause_203 : decode cX7_clause 203 = .ok (.bipush 60, 2) := dk_16 60 (dk_at dksX7_clause_7 15 rfl rfl)
theorem dX7_clause_205 : decode cX7_clause 205 = .ok (.if_icmp .eq 11, 3) := dk_159 0 11 (dk_at dksX7_clause_7 17 rfl rfl)
theorem dX7_clause_208 : decode cX7_clause 208 = .ok (.aload_n 0, 1) := dk_42 (dk_at dksX7_clause_7 20 rfl rfl)
theorem dX7_clause_209 : decode cX7_clause 209 = .ok (.aload_n 1, 1) := dk_43 (dk_at dksX7_clause_7 21 rfl rfl)
theorem dX7_clause_210 : decode cX7_clause 210 = .ok (.invokevirtual 113, 3) := dk_182 0 113 (dk_at dksX7_clause_8 0 rfl rfl)
theorem dX7_clause_213 : decode cX7_clause 213 = .ok (.ifCond .eq 16, 3) := dk_153 0 16 (dk_at dksX7_clause_8 3 rfl rfl)
theorem dX7_clause_216 : decode cX7_clause 216 = .ok (.new 44, 3) := dk_187 0 44 (dk_at dksX7_clause_8 6 rfl rfl)
theorem dX7_clause_219 : decode cX7_clause 219 = .ok (.dup, 1) := dk_89 (dk_at dksX7_clause_8 9 rfl rfl)
theorem dX7_clause_220 : decode cX7_clause 220 = .ok (.iconst 3, 1) := dk_6 (dk_at dksX7_clause_8 10 rfl rfl)
theorem dX7_clause_221 : decode cX7_clause 221 = .ok (.aload_n 0, 1) := dk_42 (dk_at dksX7_clause_8 11 rfl rfl)
theorem dX7_clause_222 : decode cX7_clause 222 = .ok (.getfield 23, 3) := dk_180 0 23 (dk_at dksX7_clause_8 12 rfl rfl)
theorem dX7_clause_225 : decode cX7_clause 225 = .ok (.invokespecial 46, 3) := dk_183 0 46 (dk_at dksX7_clause_8 15 rfl rfl)
theorem dX7_clause_228 : decode cX7_clause 228 = .ok (.athrow, 1) := dk_191 (dk_at dksX7_clause_8 18 rfl rfl)
theorem dX7_clause_229 : decode cX7_clause 229 = .ok (.aload_n 1, 1) := dk_43 (dk_at dksX7_clause_8 19 rfl rfl)
theorem dX7_clause_230 : decode cX7_clause 230 = .ok (.ldc 107, 2) := dk_18 107 (dk_at dksX7_clause_8 20 rfl rfl)
theorem dX7_clause_232 : decode cX7_clause 232 = .ok (.invokevirtual 85, 3) := dk_182 0 85 (dk_at dksX7_clause_9 0 rfl rfl)
theorem dX7_clause_235 : decode cX7_clause 235 = .ok (.ifCond .eq 26, 3) := dk_153 0 26 (dk_at dksX7_clause_9 3 rfl rfl)
theorem dX7_clause_238 : decode cX7_clause 238 = .ok (.aload_n 0, 1) := dk_42 (dk_at dksX7_clause_9 6 rfl rfl)
theorem dX7_clause_239 : decode cX7_clause 239 = .ok (.getfield 19, 3) := dk_180 0 19 (dk_at dksX7_clause_9 7 rfl rfl)
theorem dX7_clause_242 : decode cX7_clause 242 = .ok (.getfield 73, 3) := dk_180 0 73 (dk_at dksX7_clause_9 10 rfl rfl)
theorem dX7_clause_245 : decode cX7_clause 245 = .ok (.ifCond .le 16, 3) := dk_158 0 16 (dk_at dksX7_clause_9 13 rfl rfl)
theorem dX7_clause_248 : decode cX7_clause 248 = .ok (.new 44, 3) := dk_187 0 44 (dk_at dksX7_clause_9 16 rfl rfl)
theorem dX7_clause_251 : decode cX7_clause 251 = .ok (.dup, 1) := dk_89 (dk_at dksX7_clause_9 19 rfl rfl)
theorem dX7_clause_252 : decode cX7_clause 252 = .ok (.iconst 4, 1) := dk_7 (dk_at dksX7_clause_9 20 rfl rfl)
theorem dX7_clause_253 : decode cX7_clause 253 = .ok (.aload_n 0, 1) := dk_42 (dk_at dksX7_clause_9 21 rfl rfl)
theorem dX7_clause_254 : decode cX7_clause 254 = .ok (.getfield 23, 3) := dk_180 0 23 (dk_at dksX7_clause_10 0 rfl rfl)
theorem dX7_clause_257 : decode cX7_clause 257 = .ok (.invokespecial 46, 3) := dk_183 0 46 (dk_at dksX7_clause_10 3 rfl rfl)
theorem dX7_clause_260 : decode cX7_clause 260 = .ok (.athrow, 1) := dk_191 (dk_at dksX7_clause_10 6 rfl rfl)
theorem dX7_clause_261 : decode cX7_clause 261 = .ok (.aload_n 0, 1) := dk_42 (dk_at dksX7_clause_10 7 rfl rfl)
theorem dX7_clause_262 : decode cX7_clause 262 = .ok (.dup, 1) := dk_89 (dk_at dksX7_clause_10 8 rfl rfl)
theorem dX7_clause_263 : decode cX7_clause 263 = .ok (.getfield 23, 3) := dk_180 0 23 (dk_at dksX7_clause_10 9 rfl rfl)
theorem dX7_clause_266 : decode cX7_clause 266 = .ok (.aload_n 1, 1) := dk_43 (dk_at dksX7_clause_10 12 rfl rfl)
theorem dX7_clause_267 : decode cX7_clause 267 = .ok (.invokevirtual 117, 3) := dk_182 0 117 (dk_at dksX7_clause_10 13 rfl rfl)
theorem dX7_clause_270 : decode cX7_clause 270 = .ok (.iadd, 1) := dk_96 (dk_at dksX7_clause_10 16 rfl rfl)
theorem dX7_clause_271 : decode cX7_clause 271 = .ok (.putfield 23, 3) := dk_181 0 23 (dk_at dksX7_clause_10 17 rfl rfl)
theorem dX7_clause_274 : decode cX7_clause 274 = .ok (.aload_n 1, 1) := dk_43 (dk_at dksX7_clause_10 20 rfl rfl)
theorem dX7_clause_275 : decode cX7_clause 275 = .ok (.astore_n 2, 1) := dk_77 (dk_at dksX7_clause_10 21 rfl rfl)
theorem dX7_clause_276 : decode cX7_clause 276 = .ok (.iconst (-1), 1) := dk_2 (dk_at dksX7_clause_10 22 rfl rfl)
theorem dX7_clause_277 : decode cX7_clause 277 = .ok (.istore_n 3, 1) := dk_62 (dk_at dksX7_clause_10 23 rfl rfl)
theorem dX7_clause_278 : decode cX7_clause 278 = .ok (.aload_n 2, 1) := dk_44 (dk_at dksX7_clause_11 0 rfl rfl)
theorem dX7_clause_279 : decode cX7_clause 279 = .ok (.invokevirtual 78, 3) := dk_182 0 78 (dk_at dksX7_clause_11 1 rfl rfl)
theorem dX7_clause_282 : decode cX7_clause 282 = .ok (.lookupswitch 117 #[(113747, 78), (3522646, 92), (3533120, 64), (93147458, 50), (113318802, 106)], 50) := by decide +kernel
theorem dX7_clause_332 : decode cX7_clause 332 = .ok (.aload_n 2, 1) := dk_44 (dk_at dksX7_clause_13 0 rfl rfl)
theorem dX7_clause_333 : decode cX7_clause 333 = .ok (.ldc 107, 2) := dk_18 107 (dk_at dksX7_clause_13 1 rfl rfl)
theorem dX7_clause_335 : decode cX7_clause 335 = .ok (.invokevirtual 85, 3) := dk_182 0 85 (dk_at dksX7_clause_13 3 rfl rfl)
theorem dX7_clause_338 : decode cX7_clause 338 = .ok (.ifCond .eq 61, 3) := dk_153 0 61 (dk_at dksX7_clause_13 6 rfl rfl)
theorem dX7_clause_341 : decode cX7_clause 341 = .ok (.iconst 0, 1) := dk_3 (dk_at dksX7_clause_13 9 rfl rfl)
theorem dX7_clause_342 : decode cX7_clause 342 = .ok (.istore_n 3, 1) := dk_62 (dk_at dksX7_clause_13 10 rfl rfl)
theorem dX7_clause_343 : decode cX7_clause 343 = .ok (.goto 56, 3) := dk_167 0 56 (dk_at dksX7_clause_13 11 rfl rfl)
theorem dX7_clause_346 : decode cX7_clause 346 = .ok (.aload_n 2, 1) := dk_44 (dk_at dksX7_clause_13 14 rfl rfl)
theorem dX7_clause_347 : decode cX7_clause 347 = .ok (.ldc 83, 2) := dk_18 83 (dk_at dksX7_clause_13 15 rfl rfl)
theorem dX7_clause_349 : decode cX7_clause 349 = .ok (.invokevirtual 85, 3) := dk_182 0 85 (dk_at dksX7_clause_13 17 rfl rfl)
theorem dX7_clause_352 : decode cX7_clause 352 = .ok (.ifCond .eq 47, 3) := dk_153 0 47 (dk_at dksX7_clause_13 20 rfl rfl)
theorem dX7_clause_355 : decode cX7_clause 355 = .ok (.iconst 1, 1) := dk_4 (dk_at dksX7_clause_13 23 rfl rfl)
theorem dX7_clause_356 : decode cX7_clause 356 = .ok (.istore_n 3, 1) := dk_62 (dk_at dksX7_clause_14 0 rfl rfl)
theorem dX7_clause_357 : decode cX7_clause 357 = .ok (.goto 42, 3) := dk_167 0 42 (dk_at dksX7_clause_14 1 rfl rfl)
theorem dX7_clause_360 : decode cX7_clause 360 = .ok (.aload_n 2, 1) := dk_44 (dk_at dksX7_clause_14 4 rfl rfl)
theorem dX7_clause_361 : decode cX7_clause 361 = .ok (.ldc 89, 2) := dk_18 89 (dk_at dksX7_clause_14 5 rfl rfl)
theorem dX7_clause_363 : decode cX7_clause 363 = .ok (.invokevirtual 85, 3) := dk_182 0 85 (dk_at dksX7_clause_14 7 rfl rfl)
theorem dX7_clause_366 : decode cX7_clause 366 = .ok (.ifCond .eq 33, 3) := dk_153 0 33 (dk_at dksX7_clause_14 10 rfl rfl)
theorem dX7_clause_369 : decode cX7_clause 369 = .ok (.iconst 2, 1) := dk_5 (dk_at dksX7_clause_14 13 rfl rfl)
theorem dX7_clause_370 : decode cX7_clause 370 = .ok (.istore_n 3, 1) := dk_62 (dk_at dksX7_clause_14 14 rfl rfl)
theorem dX7_clause_371 : decode cX7_clause 371 = .ok (.goto 28, 3) := dk_167 0 28 (dk_at dksX7_clause_14 15 rfl rfl)
theorem dX7_clause_374 : decode cX7_clause 374 = .ok (.aload_n 2, 1) := dk_44 (dk_at dksX7_clause_14 18 rfl rfl)
theorem dX7_clause_375 : decode cX7_clause 375 = .ok (.ldc 91, 2) := dk_18 91 (dk_at dksX7_clause_14 19 rfl rfl)
theorem dX7_clause_377 : decode cX7_clause 377 = .ok (.invokevirtual 85, 3) := dk_182 0 85 (dk_at dksX7_clause_14 21 rfl rfl)
theorem dX7_clause_380 : decode cX7_clause 380 = .ok (.ifCond .eq 19, 3) := dk_153 0 19 (dk_at dksX7_clause_15 0 rfl rfl)
theorem dX7_clause_383 : decode cX7_clause 383 = .ok (.iconst 3, 1) := dk_6 (dk_at dksX7_clause_15 3 rfl rfl)
theorem dX7_clause_384 : decode cX7_clause 384 = .ok (.istore_n 3, 1) := dk_62 (dk_at dksX7_clause_15 4 rfl rfl)
theorem dX7_clause_385 : decode cX7_clause 385 = .ok (.goto 14, 3) := dk_167 0 14 (dk_at dksX7_clause_15 5 rfl rfl)
theorem dX7_clause_388 : decode cX7_clause 388 = .ok (.aload_n 2, 1) := dk_44 (dk_at dksX7_clause_15 8 rfl rfl)
theorem dX7_clause_389 : decode cX7_clause 389 = .ok (.ldc 109, 2) := dk_18 109 (dk_at dksX7_clause_15 9 rfl rfl)
theorem dX7_clause_391 : decode cX7_clause 391 = .ok (.invokevirtual 85, 3) := dk_182 0 85 (dk_at dksX7_clause_15 11 rfl rfl)
theorem dX7_clause_394 : decode cX7_clause 394 = .ok (.ifCond .eq 5, 3) := dk_153 0 5 (dk_at dksX7_clause_15 14 rfl rfl)
theorem dX7_clause_397 : decode cX7_clause 397 = .ok (.iconst 4, 1) := dk_7 (dk_at dksX7_clause_15 17 rfl rfl)
theorem dX7_clause_398 : decode cX7_clause 398 = .ok (.istore_n 3, 1) := dk_62 (dk_at dksX7_clause_15 18 rfl rfl)
theorem dX7_clause_399 : decode cX7_clause 399 = .ok (.iload_n 3, 1) := dk_29 (dk_at dksX7_clause_15 19 rfl rfl)
theorem dX7_clause_400 : decode cX7_clause 400 = .ok (.tableswitch 176 0 4 #[36, 51, 84, 118, 154], 36) := by decide +kernel
theorem dX7_clause_436 : decode cX7_clause 436 = .ok (.aload_n 0, 1) := dk_42 (dk_at dksX7_clause_17 0 rfl rfl)
theorem dX7_clause_437 : decode cX7_clause 437 = .ok (.getfield 19, 3) := dk_180 0 19 (dk_at dksX7_clause_17 1 rfl rfl)
theorem dX7_clause_440 : decode cX7_clause 440 = .ok (.aload_n 0, 1) := dk_42 (dk_at dksX7_clause_17 4 rfl rfl)
theorem dX7_clause_441 : decode cX7_clause 441 = .ok (.iconst 1, 1) := dk_4 (dk_at dksX7_clause_17 5 rfl rfl)
theorem dX7_clause_442 : decode cX7_clause 442 = .ok (.bipush 6, 2) := dk_16 6 (dk_at dksX7_clause_17 6 rfl rfl)
theorem dX7_clause_444 : decode cX7_clause 444 = .ok (.invokevirtual 118, 3) := dk_182 0 118 (dk_at dksX7_clause_17 8 rfl rfl)
theorem dX7_clause_447 : decode cX7_clause 447 = .ok (.putfield 121, 3) := dk_181 0 121 (dk_at dksX7_clause_17 11 rfl rfl)
theorem dX7_clause_450 : decode cX7_clause 450 = .ok (.return_, 1) := dk_177 (dk_at dksX7_clause_17 14 rfl rfl)
theorem dX7_clause_451 : decode cX7_clause 451 = .ok (.aload_n 0, 1) := dk_42 (dk_at dksX7_clause_17 15 rfl rfl)
theorem dX7_clause_452 : decode cX7_clause 452 = .ok (.getfield 19, 3) := dk_180 0 19 (dk_at dksX7_clause_17 16 rfl rfl)
theorem dX7_clause_455 : decode cX7_clause 455 = .ok (.getfield 123, 3) := dk_180 0 123 (dk_at dksX7_clause_17 19 rfl rfl)
theorem dX7_clause_458 : decode cX7_clause 458 = .ok (.aload_n 0, 1) := dk_42 (dk_at dksX7_clause_17 22 rfl rfl)
theorem dX7_clause_459 : decode cX7_clause 459 = .ok (.getfield 19, 3) := dk_180 0 19 (dk_at dksX7_clause_18 0 rfl rfl)
theorem dX7_clause_462 : decode cX7_clause 462 = .ok (.getfield 93, 3) := dk_180 0 93 (dk_at dksX7_clause_18 3 rfl rfl)
theorem dX7_clause_465 : decode cX7_clause 465 = .ok (.aload_n 0, 1) := dk_42 (dk_at dksX7_clause_18 6 rfl rfl)
theorem dX7_clause_466 : decode cX7_clause 466 = .ok (.invokevirtual 127, 3) := dk_182 0 127 (dk_at dksX7_clause_18 7 rfl rfl)
theorem dX7_clause_469 : decode cX7_clause 469 = .ok (.lastore, 1) := dk_80 (dk_at dksX7_clause_18 10 rfl rfl)
theorem dX7_clause_470 : decode cX7_clause 470 = .ok (.aload_n 0, 1) := dk_42 (dk_at dksX7_clause_18 11 rfl rfl)
theorem dX7_clause_471 : decode cX7_clause 471 = .ok (.getfield 19, 3) := dk_180 0 19 (dk_at dksX7_clause_18 12 rfl rfl)
theorem dX7_clause_474 : decode cX7_clause 474 = .ok (.dup, 1) := dk_89 (dk_at dksX7_clause_18 15 rfl rfl)
theorem dX7_clause_475 : decode cX7_clause 475 = .ok (.getfield 93, 3) := dk_180 0 93 (dk_at dksX7_clause_18 16 rfl rfl)
theorem dX7_clause_478 : decode cX7_clause 478 = .ok (.iconst 1, 1) := dk_4 (dk_at dksX7_clause_18 19 rfl rfl)
theorem dX7_clause_479 : decode cX7_clause 479 = .ok (.iadd, 1) := dk_96 (dk_at dksX7_clause_18 20 rfl rfl)
theorem dX7_clause_480 : decode cX7_clause 480 = .ok (.putfield 93, 3) := dk_181 0 93 (dk_at dksX7_clause_18 21 rfl rfl)
theorem dX7_clause_483 : decode cX7_clause 483 = .ok (.return_, 1) := dk_177 (dk_at dksX7_clause_19 0 rfl rfl)
theorem dX7_clause_484 : decode cX7_clause 484 = .ok (.aload_n 0, 1) := dk_42 (dk_at dksX7_clause_19 1 rfl rfl)
theorem dX7_clause_485 : decode cX7_clause 485 = .ok (.iconst 0, 1) := dk_3 (dk_at dksX7_clause_19 2 rfl rfl)
theorem dX7_clause_486 : decode cX7_clause 486 = .ok (.bipush 51, 2) := dk_16 51 (dk_at dksX7_clause_19 3 rfl rfl)
theorem dX7_clause_488 : decode cX7_clause 488 = .ok (.invokevirtual 118, 3) := dk_182 0 118 (dk_at dksX7_clause_19 5 rfl rfl)
theorem dX7_clause_491 : decode cX7_clause 491 = .ok (.istore 4, 2) := dk_54 4 (dk_at dksX7_clause_19 8 rfl rfl)
theorem dX7_clause_493 : decode cX7_clause 493 = .ok (.aload_n 0, 1) := dk_42 (dk_at dksX7_clause_19 10 rfl rfl)
theorem dX7_clause_494 : decode cX7_clause 494 = .ok (.getfield 19, 3) := dk_180 0 19 (dk_at dksX7_clause_19 11 rfl rfl)
theorem dX7_clause_497 : decode cX7_clause 497 = .ok (.getfield 96, 3) := dk_180 0 96 (dk_at dksX7_clause_19 14 rfl rfl)
theorem dX7_clause_500 : decode cX7_clause 500 = .ok (.new 131, 3) := dk_187 0 131 (dk_at dksX7_clause_19 17 rfl rfl)
theorem dX7_clause_503 : decode cX7_clause 503 = .ok (.dup, 1) := dk_89 (dk_at dksX7_clause_19 20 rfl rfl)
theorem dX7_clause_504 : decode cX7_clause 504 = .ok (.iload 4, 2) := dk_21 4 (dk_at dksX7_clause_19 21 rfl rfl)
theorem dX7_clause_506 : decode cX7_clause 506 = .ok (.aload_n 0, 1) := dk_42 (dk_at dksX7_clause_19 23 rfl rfl)
theorem dX7_clause_507 : decode cX7_clause 507 = .ok (.invokevirtual 127, 3) := dk_182 0 127 (dk_at dksX7_clause_20 0 rfl rfl)
theorem dX7_clause_510 : decode cX7_clause 510 = .ok (.invokespecial 133, 3) := dk_183 0 133 (dk_at dksX7_clause_20 3 rfl rfl)
theorem dX7_clause_513 : decode cX7_clause 513 = .ok (.invokevirtual 136, 3) := dk_182 0 136 (dk_at dksX7_clause_20 6 rfl rfl)
theorem dX7_clause_516 : decode cX7_clause 516 = .ok (.pop, 1) := dk_87 (dk_at dksX7_clause_20 9 rfl rfl)
theorem dX7_clause_517 : decode cX7_clause 517 = .ok (.return_, 1) := dk_177 (dk_at dksX7_clause_20 10 rfl rfl)
theorem dX7_clause_518 : decode cX7_clause 518 = .ok (.aload_n 0, 1) := dk_42 (dk_at dksX7_clause_20 11 rfl rfl)
theorem dX7_clause_519 : decode cX7_clause 519 = .ok (.getfield 19, 3) := dk_180 0 19 (dk_at dksX7_clause_20 12 rfl rfl)
theorem dX7_clause_522 : decode cX7_clause 522 = .ok (.getfield 123, 3) := dk_180 0 123 (dk_at dksX7_clause_20 15 rfl rfl)
theorem dX7_clause_525 : decode cX7_clause 525 = .ok (.bipush 12, 2) := dk_16 12 (dk_at dksX7_clause_20 18 rfl rfl)
theorem dX7_clause_527 : decode cX7_clause 527 = .ok (.aload_n 0, 1) := dk_42 (dk_at dksX7_clause_20 20 rfl rfl)
theorem dX7_clause_528 : decode cX7_clause 528 = .ok (.getfield 19, 3) := dk_180 0 19 (dk_at dksX7_clause_20 21 rfl rfl)
theorem dX7_clause_531 : decode cX7_clause 531 = .ok (.getfield 104, 3) := dk_180 0 104 (dk_at dksX7_clause_21 0 rfl rfl)
theorem dX7_clause_534 : decode cX7_clause 534 = .ok (.iadd, 1) := dk_96 (dk_at dksX7_clause_21 3 rfl rfl)
theorem dX7_clause_535 : decode cX7_clause 535 = .ok (.aload_n 0, 1) := dk_42 (dk_at dksX7_clause_21 4 rfl rfl)
theorem dX7_clause_536 : decode cX7_clause 536 = .ok (.invokevirtual 127, 3) := dk_182 0 127 (dk_at dksX7_clause_21 5 rfl rfl)
theorem dX7_clause_539 : decode cX7_clause 539 = .ok (.lastore, 1) := dk_80 (dk_at dksX7_clause_21 8 rfl rfl)
theorem dX7_clause_540 : decode cX7_clause 540 = .ok (.aload_n 0, 1) := dk_42 (dk_at dksX7_clause_21 9 rfl rfl)
theorem dX7_clause_541 : decode cX7_clause 541 = .ok (.getfield 19, 3) := dk_180 0 19 (dk_at dksX7_clause_21 10 rfl rfl)
theorem dX7_clause_544 : decode cX7_clause 544 = .ok (.dup, 1) := dk_89 (dk_at dksX7_clause_21 13 rfl rfl)
theorem dX7_clause_545 : decode cX7_clause 545 = .ok (.getfield 104, 3) := dk_180 0 104 (dk_at dksX7_clause_21 14 rfl rfl)
theorem dX7_clause_548 : decode cX7_clause 548 = .ok (.iconst 1, 1) := dk_4 (dk_at dksX7_clause_21 17 rfl rfl)
theorem dX7_clause_549 : decode cX7_clause 549 = .ok (.iadd, 1) := dk_96 (dk_at dksX7_clause_21 18 rfl rfl)
theorem dX7_clause_550 : decode cX7_clause 550 = .ok (.putfield 104, 3) := dk_181 0 104 (dk_at dksX7_clause_21 19 rfl rfl)
theorem dX7_clause_553 : decode cX7_clause 553 = .ok (.return_, 1) := dk_177 (dk_at dksX7_clause_21 22 rfl rfl)
theorem dX7_clause_554 : decode cX7_clause 554 = .ok (.aload_n 0, 1) := dk_42 (dk_at dksX7_clause_21 23 rfl rfl)
theorem dX7_clause_555 : decode cX7_clause 555 = .ok (.getfield 19, 3) := dk_180 0 19 (dk_at dksX7_clause_22 0 rfl rfl)
theorem dX7_clause_558 : decode cX7_clause 558 = .ok (.aload_n 0, 1) := dk_42 (dk_at dksX7_clause_22 3 rfl rfl)
theorem dX7_clause_559 : decode cX7_clause 559 = .ok (.iconst 0, 1) := dk_3 (dk_at dksX7_clause_22 4 rfl rfl)
theorem dX7_clause_560 : decode cX7_clause 560 = .ok (.aload_n 0, 1) := dk_42 (dk_at dksX7_clause_22 5 rfl rfl)
theorem dX7_clause_561 : decode cX7_clause 561 = .ok (.getfield 19, 3) := dk_180 0 19 (dk_at dksX7_clause_22 6 rfl rfl)
theorem dX7_clause_564 : decode cX7_clause 564 = .ok (.invokevirtual 139, 3) := dk_182 0 139 (dk_at dksX7_clause_22 9 rfl rfl)
theorem dX7_clause_567 : decode cX7_clause 567 = .ok (.iconst 1, 1) := dk_4 (dk_at dksX7_clause_22 12 rfl rfl)
theorem dX7_clause_568 : decode cX7_clause 568 = .ok (.isub, 1) := dk_100 (dk_at dksX7_clause_22 13 rfl rfl)
theorem dX7_clause_569 : decode cX7_clause 569 = .ok (.invokevirtual 118, 3) := dk_182 0 118 (dk_at dksX7_clause_22 14 rfl rfl)
theorem dX7_clause_572 : decode cX7_clause 572 = .ok (.putfield 142, 3) := dk_181 0 142 (dk_at dksX7_clause_22 17 rfl rfl)
theorem dX7_clause_575 : decode cX7_clause 575 = .ok (.return_, 1) := dk_177 (dk_at dksX7_clause_22 20 rfl rfl)
theorem dX7_clause_576 : decode cX7_clause 576 = .ok (.aload_n 0, 1) := dk_42 (dk_at dksX7_clause_22 21 rfl rfl)
theorem dX7_clause_577 : decode cX7_clause 577 = .ok (.getfield 19, 3) := dk_180 0 19 (dk_at dksX7_clause_23 0 rfl rfl)
theorem dX7_clause_580 : decode cX7_clause 580 = .ok (.aload_n 0, 1) := dk_42 (dk_at dksX7_clause_23 3 rfl rfl)
theorem dX7_clause_581 : decode cX7_clause 581 = .ok (.iconst 0, 1) := dk_3 (dk_at dksX7_clause_23 4 rfl rfl)
theorem dX7_clause_582 : decode cX7_clause 582 = .ok (.iconst 4, 1) := dk_7 (dk_at dksX7_clause_23 5 rfl rfl)
theorem dX7_clause_583 : decode cX7_clause 583 = .ok (.invokevirtual 118, 3) := dk_182 0 118 (dk_at dksX7_clause_23 6 rfl rfl)
theorem dX7_clause_586 : decode cX7_clause 586 = .ok (.putfield 144, 3) := dk_181 0 144 (dk_at dksX7_clause_23 9 rfl rfl)
theorem dX7_clause_589 : decode cX7_clause 589 = .ok (.return_, 1) := dk_177 (dk_at dksX7_clause_23 12 rfl rfl)
abbrev cX7_wrong : ByteArray := prog_8_method_4_code
def yX7_wrong : MethodName := ⟨RX7, "wrong", "()LLotBeliefs$Wrong;"⟩
def dkwX7_wrong_0 : List UInt8 := [187, 0, 44, 89, 4, 42, 180, 0, 23, 183, 0, 46, 176]
abbrev dktX7_wrong_0 : List UInt8 := dkwX7_wrong_0 ++ []
theorem dksX7_wrong_0 : cX7_wrong.data.toList.drop 0 = dktX7_wrong_0 := by decide +kernel
theorem dX7_wrong_0 : decode cX7_wrong 0 = .ok (.new 44, 3) := dk_187 0 44 (dk_at dksX7_wrong_0 0 rfl rfl)
theorem dX7_wrong_3 : decode cX7_wrong 3 = .ok (.dup, 1) := dk_89 (dk_at dksX7_wrong_0 3 rfl rfl)
theorem dX7_wrong_4 : decode cX7_wrong 4 = .ok (.iconst 1, 1) := dk_4 (dk_at dksX7_wrong_0 4 rfl rfl)
theorem dX7_wrong_5 : decode cX7_wrong 5 = .ok (.aload_n 0, 1) := dk_42 (dk_at dksX7_wrong_0 5 rfl rfl)
theorem dX7_wrong_6 : decode cX7_wrong 6 = .ok (.getfield 23, 3) := dk_180 0 23 (dk_at dksX7_wrong_0 6 rfl rfl)
theorem dX7_wrong_9 : decode cX7_wrong 9 = .ok (.invokespecial 46, 3) := dk_183 0 46 (dk_at dksX7_wrong_0 9 rfl rfl)
theorem dX7_wrong_12 : decode cX7_wrong 12 = .ok (.areturn, 1) := dk_176 (dk_at dksX7_wrong_0 12 rfl rfl)
abbrev cX7_isFull : ByteArray := prog_8_method_8_code
def yX7_isFull : MethodName := ⟨RX7, "isFull", "(Ljava/lang/String;)Z"⟩
def dkwX7_isFull_7 : List UInt8 := [8, 160, 0, 7, 4, 167, 0, 4, 3, 172, 3, 172]
abbrev dktX7_isFull_7 : List UInt8 := dkwX7_isFull_7 ++ []
def dkwX7_isFull_6 : List UInt8 := [180, 0, 96, 182, 0, 100, 16, 12, 160, 0, 7, 4, 167, 0, 4, 3, 172, 42, 180, 0, 19, 180, 0, 104]
abbrev dktX7_isFull_6 : List UInt8 := dkwX7_isFull_6 ++ dktX7_isFull_7
def dkwX7_isFull_5 : List UInt8 := [42, 180, 0, 19, 180, 0, 93, 16, 12, 160, 0, 7, 4, 167, 0, 4, 3, 172, 42, 180, 0, 19]
abbrev dktX7_isFull_5 : List UInt8 := dkwX7_isFull_5 ++ dktX7_isFull_6
def dkwX7_isFull_4 : List UInt8 := [170, 0, 0, 0, 0, 0, 0, 84, 0, 0, 0, 0, 0, 0, 0, 2, 0, 0, 0, 28, 0, 0, 0, 46, 0, 0, 0, 67]
abbrev dktX7_isFull_4 : List UInt8 := dkwX7_isFull_4 ++ dktX7_isFull_5
def dkwX7_isFull_3 : List UInt8 := [62, 167, 0, 14, 44, 18, 91, 182, 0, 85, 153, 0, 5, 5, 62, 29]
abbrev dktX7_isFull_3 : List UInt8 := dkwX7_isFull_3 ++ dktX7_isFull_4
def dkwX7_isFull_2 : List UInt8 := [44, 18, 83, 182, 0, 85, 153, 0, 33, 3, 62, 167, 0, 28, 44, 18, 89, 182, 0, 85, 153, 0, 19, 4]
abbrev dktX7_isFull_2 : List UInt8 := dkwX7_isFull_2 ++ dktX7_isFull_3
def dkwX7_isFull_1 : List UInt8 := [171, 0, 0, 0, 0, 0, 0, 75, 0, 0, 0, 3, 0, 1, 188, 83, 0, 0, 0, 50, 0, 53, 192, 86, 0, 0, 0, 64, 0, 53, 233, 64, 0, 0, 0, 36]
abbrev dktX7_isFull_1 : List UInt8 := dkwX7_isFull_1 ++ dktX7_isFull_2
def dkwX7_isFull_0 : List UInt8 := [43, 77, 2, 62, 44, 182, 0, 78]
abbrev dktX7_isFull_0 : List UInt8 := dkwX7_isFull_0 ++ dktX7_isFull_1
theorem dksX7_isFull_0 : cX7_isFull.data.toList.drop 0 = dktX7_isFull_0 := by decide +kernel
theorem dksX7_isFull_1 : cX7_isFull.data.toList.drop 8 = dktX7_isFull_1 := dk_seg dksX7_isFull_0 8 rfl rfl
theorem dksX7_isFull_2 : cX7_isFull.data.toList.drop 44 = dktX7_isFull_2 := dk_seg dksX7_isFull_1 36 rfl rfl
theorem dksX7_isFull_3 : cX7_isFull.data.toList.drop 68 = dktX7_isFull_3 := dk_seg dksX7_isFull_2 24 rfl rfl
theorem dksX7_isFull_4 : cX7_isFull.data.toList.drop 84 = dktX7_isFull_4 := dk_seg dksX7_isFull_3 16 rfl rfl
theorem dksX7_isFull_5 : cX7_isFull.data.toList.drop 112 = dktX7_isFull_5 := dk_seg dksX7_isFull_4 28 rfl rfl
theorem dksX7_isFull_6 : cX7_isFull.data.toList.drop 134 = dktX7_isFull_6 := dk_seg dksX7_isFull_5 22 rfl rfl
theorem dksX7_isFull_7 : cX7_isFull.data.toList.drop 158 = dktX7_isFull_7 := dk_seg dksX7_isFull_6 24 rfl rfl
theorem dX7_isFull_0 : decode cX7_isFull 0 = .ok (.aload_n 1, 1) := dk_43 (dk_at dksX7_isFull_0 0 rfl rfl)
theorem dX7_isFull_1 : decode cX7_isFull 1 = .ok (.astore_n 2, 1) := dk_77 (dk_at dksX7_isFull_0 1 rfl rfl)
theorem dX7_isFull_2 : decode cX7_isFull 2 = .ok (.iconst (-1), 1) := dk_2 (dk_at dksX7_isFull_0 2 rfl rfl)
theorem dX7_isFull_3 : decode cX7_isFull 3 = .ok (.istore_n 3, 1) := dk_62 (dk_at dksX7_isFull_0 3 rfl rfl)
theorem dX7_isFull_4 : decode cX7_isFull 4 = .ok (.aload_n 2, 1) := dk_44 (dk_at dksX7_isFull_0 4 rfl rfl)
theorem dX7_isFull_5 : decode cX7_isFull 5 = .ok (.invokevirtual 78, 3) := dk_182 0 78 (dk_at dksX7_isFull_0 5 rfl rfl)
theorem dX7_isFull_8 : decode cX7_isFull 8 = .ok (.lookupswitch 75 #[(113747, 50), (3522646, 64), (3533120, 36)], 36) := by decide +kernel
theorem dX7_isFull_44 : decode cX7_isFull 44 = .ok (.aload_n 2, 1) := dk_44 (dk_at dksX7_isFull_2 0 rfl rfl)
theorem dX7_isFull_45 : decode cX7_isFull 45 = .ok (.ldc 83, 2) := dk_18 83 (dk_at dksX7_isFull_2 1 rfl rfl)
theorem dX7_isFull_47 : decode cX7_isFull 47 = .ok (.invokevirtual 85, 3) := dk_182 0 85 (dk_at dksX7_isFull_2 3 rfl rfl)
theorem dX7_isFull_50 : decode cX7_isFull 50 = .ok (.ifCond .eq 33, 3) := dk_153 0 33 (dk_at dksX7_isFull_2 6 rfl rfl)
theorem dX7_isFull_53 : decode cX7_isFull 53 = .ok (.iconst 0, 1) := dk_3 (dk_at dksX7_isFull_2 9 rfl rfl)
theorem dX7_isFull_54 : decode cX7_isFull 54 = .ok (.istore_n 3, 1) := dk_62 (dk_at dksX7_isFull_2 10 rfl rfl)
theorem dX7_isFull_55 : decode cX7_isFull 55 = .ok (.goto 28, 3) := dk_167 0 28 (dk_at dksX7_isFull_2 11 rfl rfl)
theorem dX7_isFull_58 : decode cX7_isFull 58 = .ok (.aload_n 2, 1) := dk_44 (dk_at dksX7_isFull_2 14 rfl rfl)
theorem dX7_isFull_59 : decode cX7_isFull 59 = .ok (.ldc 89, 2) := dk_18 89 (dk_at dksX7_isFull_2 15 rfl rfl)
theorem dX7_isFull_61 : decode cX7_isFull 61 = .ok (.invokevirtual 85, 3) := dk_182 0 85 (dk_at dksX7_isFull_2 17 rfl rfl)
theorem dX7_isFull_64 : decode cX7_isFull 64 = .ok (.ifCond .eq 19, 3) := dk_153 0 19 (dk_at dksX7_isFull_2 20 rfl rfl)
theorem dX7_isFull_67 : decode cX7_isFull 67 = .ok (.iconst 1, 1) := dk_4 (dk_at dksX7_isFull_2 23 rfl rfl)
theorem dX7_isFull_68 : decode cX7_isFull 68 = .ok (.istore_n 3, 1) := dk_62 (dk_at dksX7_isFull_3 0 rfl rfl)
theorem dX7_isFull_69 : decode cX7_isFull 69 = .ok (.goto 14, 3) := dk_167 0 14 (dk_at dksX7_isFull_3 1 rfl rfl)
theorem dX7_isFull_72 : decode cX7_isFull 72 = .ok (.aload_n 2, 1) := dk_44 (dk_at dksX7_isFull_3 4 rfl rfl)
theorem dX7_isFull_73 : decode cX7_isFull 73 = .ok (.ldc 91, 2) := dk_18 91 (dk_at dksX7_isFull_3 5 rfl rfl)
theorem dX7_isFull_75 : decode cX7_isFull 75 = .ok (.invokevirtual 85, 3) := dk_182 0 85 (dk_at dksX7_isFull_3 7 rfl rfl)
theorem dX7_isFull_78 : decode cX7_isFull 78 = .ok (.ifCond .eq 5, 3) := dk_153 0 5 (dk_at dksX7_isFull_3 10 rfl rfl)
theorem dX7_isFull_81 : decode cX7_isFull 81 = .ok (.iconst 2, 1) := dk_5 (dk_at dksX7_isFull_3 13 rfl rfl)
theorem dX7_isFull_82 : decode cX7_isFull 82 = .ok (.istore_n 3, 1) := dk_62 (dk_at dksX7_isFull_3 14 rfl rfl)
theorem dX7_isFull_83 : decode cX7_isFull 83 = .ok (.iload_n 3, 1) := dk_29 (dk_at dksX7_isFull_3 15 rfl rfl)
theorem dX7_isFull_84 : decode cX7_isFull 84 = .ok (.tableswitch 84 0 2 #[28, 46, 67], 28) := by decide +kernel
theorem dX7_isFull_112 : decode cX7_isFull 112 = .ok (.aload_n 0, 1) := dk_42 (dk_at dksX7_isFull_5 0 rfl rfl)
theorem dX7_isFull_113 : decode cX7_isFull 113 = .ok (.getfield 19, 3) := dk_180 0 19 (dk_at dksX7_isFull_5 1 rfl rfl)
theorem dX7_isFull_116 : decode cX7_isFull 116 = .ok (.getfield 93, 3) := dk_180 0 93 (dk_at dksX7_isFull_5 4 rfl rfl)
theorem dX7_isFull_119 : decode cX7_isFull 119 = .ok (.bipush 12, 2) := dk_16 12 (dk_at dksX7_isFull_5 7 rfl rfl)
theorem dX7_isFull_121 : decode cX7_isFull 121 = .ok (.if_icmp .ne 7, 3) := dk_160 0 7 (dk_at dksX7_isFull_5 9 rfl rfl)
theorem dX7_isFull_124 : decode cX7_isFull 124 = .ok (.iconst 1, 1) := dk_4 (dk_at dksX7_isFull_5 12 rfl rfl)
theorem dX7_isFull_125 : decode cX7_isFull 125 = .ok (.goto 4, 3) := dk_167 0 4 (dk_at dksX7_isFull_5 13 rfl rfl)
theorem dX7_isFull_128 : decode cX7_isFull 128 = .ok (.iconst 0, 1) := dk_3 (dk_at dksX7_isFull_5 16 rfl rfl)
theorem dX7_isFull_129 : decode cX7_isFull 129 = .ok (.ireturn, 1) := dk_172 (dk_at dksX7_isFull_5 17 rfl rfl)
theorem dX7_isFull_130 : decode cX7_isFull 130 = .ok (.aload_n 0, 1) := dk_42 (dk_at dksX7_isFull_5 18 rfl rfl)
theorem dX7_isFull_131 : decode cX7_isFull 131 = .ok (.getfield 19, 3) := dk_180 0 19 (dk_at dksX7_isFull_5 19 rfl rfl)
theorem dX7_isFull_134 : decode cX7_isFull 134 = .ok (.getfield 96, 3) := dk_180 0 96 (dk_at dksX7_isFull_6 0 rfl rfl)
theorem dX7_isFull_137 : decode cX7_isFull 137 = .ok (.invokevirtual 100, 3) := dk_182 0 100 (dk_at dksX7_isFull_6 3 rfl rfl)
theorem dX7_isFull_140 : decode cX7_isFull 140 = .ok (.bipush 12, 2) := dk_16 12 (dk_at dksX7_isFull_6 6 rfl rfl)
theorem dX7_isFull_142 : decode cX7_isFull 142 = .ok (.if_icmp .ne 7, 3) := dk_160 0 7 (dk_at dksX7_isFull_6 8 rfl rfl)
theorem dX7_isFull_145 : decode cX7_isFull 145 = .ok (.iconst 1, 1) := dk_4 (dk_at dksX7_isFull_6 11 rfl rfl)
theorem dX7_isFull_146 : decode cX7_isFull 146 = .ok (.goto 4, 3) := dk_167 0 4 (dk_at dksX7_isFull_6 12 rfl rfl)
theorem dX7_isFull_149 : decode cX7_isFull 149 = .ok (.iconst 0, 1) := dk_3 (dk_at dksX7_isFull_6 15 rfl rfl)
theorem dX7_isFull_150 : decode cX7_isFull 150 = .ok (.ireturn, 1) := dk_172 (dk_at dksX7_isFull_6 16 rfl rfl)
theorem dX7_isFull_151 : decode cX7_isFull 151 = .ok (.aload_n 0, 1) := dk_42 (dk_at dksX7_isFull_6 17 rfl rfl)
theorem dX7_isFull_152 : decode cX7_isFull 152 = .ok (.getfield 19, 3) := dk_180 0 19 (dk_at dksX7_isFull_6 18 rfl rfl)
theorem dX7_isFull_155 : decode cX7_isFull 155 = .ok (.getfield 104, 3) := dk_180 0 104 (dk_at dksX7_isFull_6 21 rfl rfl)
theorem dX7_isFull_158 : decode cX7_isFull 158 = .ok (.iconst 5, 1) := dk_8 (dk_at dksX7_isFull_7 0 rfl rfl)
theorem dX7_isFull_159 : decode cX7_isFull 159 = .ok (.if_icmp .ne 7, 3) := dk_160 0 7 (dk_at dksX7_isFull_7 1 rfl rfl)
theorem dX7_isFull_162 : decode cX7_isFull 162 = .ok (.iconst 1, 1) := dk_4 (dk_at dksX7_isFull_7 4 rfl rfl)
theorem dX7_isFull_163 : decode cX7_isFull 163 = .ok (.goto 4, 3) := dk_167 0 4 (dk_at dksX7_isFull_7 5 rfl rfl)
theorem dX7_isFull_166 : decode cX7_isFull 166 = .ok (.iconst 0, 1) := dk_3 (dk_at dksX7_isFull_7 8 rfl rfl)
theorem dX7_isFull_167 : decode cX7_isFull 167 = .ok (.ireturn, 1) := dk_172 (dk_at dksX7_isFull_7 9 rfl rfl)
theorem dX7_isFull_168 : decode cX7_isFull 168 = .ok (.iconst 0, 1) := dk_3 (dk_at dksX7_isFull_7 10 rfl rfl)
theorem dX7_isFull_169 : decode cX7_isFull 169 = .ok (.ireturn, 1) := dk_172 (dk_at dksX7_isFull_7 11 rfl rfl)
abbrev cX7_number : ByteArray := prog_8_method_6_code
def yX7_number : MethodName := ⟨RX7, "number", "(II)I"⟩
def dkwX7_number_5 : List UInt8 := [164, 0, 16, 187, 0, 44, 89, 5, 42, 180, 0, 53, 183, 0, 46, 191, 21, 4, 172]
abbrev dktX7_number_5 : List UInt8 := dkwX7_number_5 ++ []
def dkwX7_number_4 : List UInt8 := [54, 4, 42, 89, 180, 0, 23, 4, 96, 181, 0, 23, 167, 255, 181, 21, 4, 27, 161, 0, 9, 21, 4, 28]
abbrev dktX7_number_4 : List UInt8 := dkwX7_number_4 ++ dktX7_number_5
def dkwX7_number_3 : List UInt8 := [16, 10, 21, 4, 104, 42, 180, 0, 9, 42, 180, 0, 23, 51, 96, 16, 48, 100, 17, 3, 232, 184, 0, 56]
abbrev dktX7_number_3 : List UInt8 := dkwX7_number_3 ++ dktX7_number_4
def dkwX7_number_2 : List UInt8 := [42, 180, 0, 23, 51, 16, 48, 161, 0, 56, 42, 180, 0, 9, 42, 180, 0, 23, 51, 16, 57, 163, 0, 42]
abbrev dktX7_number_2 : List UInt8 := dkwX7_number_2 ++ dktX7_number_3
def dkwX7_number_1 : List UInt8 := [180, 0, 23, 181, 0, 53, 3, 54, 4, 42, 180, 0, 23, 42, 180, 0, 15, 162, 0, 70, 42, 180, 0, 9]
abbrev dktX7_number_1 : List UInt8 := dkwX7_number_1 ++ dktX7_number_2
def dkwX7_number_0 : List UInt8 := [42, 182, 0, 26, 62, 29, 16, 48, 161, 0, 9, 29, 16, 57, 164, 0, 8, 42, 182, 0, 49, 191, 42, 42]
abbrev dktX7_number_0 : List UInt8 := dkwX7_number_0 ++ dktX7_number_1
theorem dksX7_number_0 : cX7_number.data.toList.drop 0 = dktX7_number_0 := by decide +kernel
theorem dksX7_number_1 : cX7_number.data.toList.drop 24 = dktX7_number_1 := dk_seg dksX7_number_0 24 rfl rfl
theorem dksX7_number_2 : cX7_number.data.toList.drop 48 = dktX7_number_2 := dk_seg dksX7_number_1 24 rfl rfl
theorem dksX7_number_3 : cX7_number.data.toList.drop 72 = dktX7_number_3 := dk_seg dksX7_number_2 24 rfl rfl
theorem dksX7_number_4 : cX7_number.data.toList.drop 96 = dktX7_number_4 := dk_seg dksX7_number_3 24 rfl rfl
theorem dksX7_number_5 : cX7_number.data.toList.drop 120 = dktX7_number_5 := dk_seg dksX7_number_4 24 rfl rfl
theorem dX7_number_0 : decode cX7_number 0 = .ok (.aload_n 0, 1) := dk_42 (dk_at dksX7_number_0 0 rfl rfl)
theorem dX7_number_1 : decode cX7_number 1 = .ok (.invokevirtual 26, 3) := dk_182 0 26 (dk_at dksX7_number_0 1 rfl rfl)
theorem dX7_number_4 : decode cX7_number 4 = .ok (.istore_n 3, 1) := dk_62 (dk_at dksX7_number_0 4 rfl rfl)
theorem dX7_number_5 : decode cX7_number 5 = .ok (.iload_n 3, 1) := dk_29 (dk_at dksX7_number_0 5 rfl rfl)
theorem dX7_number_6 : decode cX7_number 6 = .ok (.bipush 48, 2) := dk_16 48 (dk_at dksX7_number_0 6 rfl rfl)
theorem dX7_number_8 : decode cX7_number 8 = .ok (.if_icmp .lt 9, 3) := dk_161 0 9 (dk_at dksX7_number_0 8 rfl rfl)
theorem dX7_number_11 : decode cX7_number 11 = .ok (.iload_n 3, 1) := dk_29 (dk_at dksX7_number_0 11 rfl rfl)
theorem dX7_number_12 : decode cX7_number 12 = .ok (.bipush 57, 2) := dk_16 57 (dk_at dksX7_number_0 12 rfl rfl)
theorem dX7_number_14 : decode cX7_number 14 = .ok (.if_icmp .le 8, 3) := dk_164 0 8 (dk_at dksX7_number_0 14 rfl rfl)
theorem dX7_number_17 : decode cX7_number 17 = .ok (.aload_n 0, 1) := dk_42 (dk_at dksX7_number_0 17 rfl rfl)
theorem dX7_number_18 : decode cX7_number 18 = .ok (.invokevirtual 49, 3) := dk_182 0 49 (dk_at dksX7_number_0 18 rfl rfl)
theorem dX7_number_21 : decode cX7_number 21 = .ok (.athrow, 1) := dk_191 (dk_at dksX7_number_0 21 rfl rfl)
theorem dX7_number_22 : decode cX7_number 22 = .ok (.aload_n 0, 1) := dk_42 (dk_at dksX7_number_0 22 rfl rfl)
theorem dX7_number_23 : decode cX7_number 23 = .ok (.aload_n 0, 1) := dk_42 (dk_at dksX7_number_0 23 rfl rfl)
theorem dX7_number_24 : decode cX7_number 24 = .ok (.getfield 23, 3) := dk_180 0 23 (dk_at dksX7_number_1 0 rfl rfl)
theorem dX7_number_27 : decode cX7_number 27 = .ok (.putfield 53, 3) := dk_181 0 53 (dk_at dksX7_number_1 3 rfl rfl)
theorem dX7_number_30 : decode cX7_number 30 = .ok (.iconst 0, 1) := dk_3 (dk_at dksX7_number_1 6 rfl rfl)
theorem dX7_number_31 : decode cX7_number 31 = .ok (.istore 4, 2) := dk_54 4 (dk_at dksX7_number_1 7 rfl rfl)
theorem dX7_number_33 : decode cX7_number 33 = .ok (.aload_n 0, 1) := dk_42 (dk_at dksX7_number_1 9 rfl rfl)
theorem dX7_number_34 : decode cX7_number 34 = .ok (.getfield 23, 3) := dk_180 0 23 (dk_at dksX7_number_1 10 rfl rfl)
theorem dX7_number_37 : decode cX7_number 37 = .ok (.aload_n 0, 1) := dk_42 (dk_at dksX7_number_1 13 rfl rfl)
theorem dX7_number_38 : decode cX7_number 38 = .ok (.getfield 15, 3) := dk_180 0 15 (dk_at dksX7_number_1 14 rfl rfl)
theorem dX7_number_41 : decode cX7_number 41 = .ok (.if_icmp .ge 70, 3) := dk_162 0 70 (dk_at dksX7_number_1 17 rfl rfl)
theorem dX7_number_44 : decode cX7_number 44 = .ok (.aload_n 0, 1) := dk_42 (dk_at dksX7_number_1 20 rfl rfl)
theorem dX7_number_45 : decode cX7_number 45 = .ok (.getfield 9, 3) := dk_180 0 9 (dk_at dksX7_number_1 21 rfl rfl)
theorem dX7_number_48 : decode cX7_number 48 = .ok (.aload_n 0, 1) := dk_42 (dk_at dksX7_number_2 0 rfl rfl)
theorem dX7_number_49 : decode cX7_number 49 = .ok (.getfield 23, 3) := dk_180 0 23 (dk_at dksX7_number_2 1 rfl rfl)
theorem dX7_number_52 : decode cX7_number 52 = .ok (.baload, 1) := dk_51 (dk_at dksX7_number_2 4 rfl rfl)
theorem dX7_number_53 : decode cX7_number 53 = .ok (.bipush 48, 2) := dk_16 48 (dk_at dksX7_number_2 5 rfl rfl)
theorem dX7_number_55 : decode cX7_number 55 = .ok (.if_icmp .lt 56, 3) := dk_161 0 56 (dk_at dksX7_number_2 7 rfl rfl)
theorem dX7_number_58 : decode cX7_number 58 = .ok (.aload_n 0, 1) := dk_42 (dk_at dksX7_number_2 10 rfl rfl)
theorem dX7_number_59 : decode cX7_number 59 = .ok (.getfield 9, 3) := dk_180 0 9 (dk_at dksX7_number_2 11 rfl rfl)
theorem dX7_number_62 : decode cX7_number 62 = .ok (.aload_n 0, 1) := dk_42 (dk_at dksX7_number_2 14 rfl rfl)
theorem dX7_number_63 : decode cX7_number 63 = .ok (.getfield 23, 3) := dk_180 0 23 (dk_at dksX7_number_2 15 rfl rfl)
theorem dX7_number_66 : decode cX7_number 66 = .ok (.baload, 1) := dk_51 (dk_at dksX7_number_2 18 rfl rfl)
theorem dX7_number_67 : decode cX7_number 67 = .ok (.bipush 57, 2) := dk_16 57 (dk_at dksX7_number_2 19 rfl rfl)
theorem dX7_number_69 : decode cX7_number 69 = .ok (.if_icmp .gt 42, 3) := dk_163 0 42 (dk_at dksX7_number_2 21 rfl rfl)
theorem dX7_number_72 : decode cX7_number 72 = .ok (.bipush 10, 2) := dk_16 10 (dk_at dksX7_number_3 0 rfl rfl)
theorem dX7_number_74 : decode cX7_number 74 = .ok (.iload 4, 2) := dk_21 4 (dk_at dksX7_number_3 2 rfl rfl)
theorem dX7_number_76 : decode cX7_number 76 = .ok (.imul, 1) := dk_104 (dk_at dksX7_number_3 4 rfl rfl)
theorem dX7_number_77 : decode cX7_number 77 = .ok (.aload_n 0, 1) := dk_42 (dk_at dksX7_number_3 5 rfl rfl)
theorem dX7_number_78 : decode cX7_number 78 = .ok (.getfield 9, 3) := dk_180 0 9 (dk_at dksX7_number_3 6 rfl rfl)
theorem dX7_number_81 : decode cX7_number 81 = .ok (.aload_n 0, 1) := dk_42 (dk_at dksX7_number_3 9 rfl rfl)
theorem dX7_number_82 : decode cX7_number 82 = .ok (.getfield 23, 3) := dk_180 0 23 (dk_at dksX7_number_3 10 rfl rfl)
theorem dX7_number_85 : decode cX7_number 85 = .ok (.baload, 1) := dk_51 (dk_at dksX7_number_3 13 rfl rfl)
theorem dX7_number_86 : decode cX7_number 86 = .ok (.iadd, 1) := dk_96 (dk_at dksX7_number_3 14 rfl rfl)
theorem dX7_number_87 : decode cX7_number 87 = .ok (.bipush 48, 2) := dk_16 48 (dk_at dksX7_number_3 15 rfl rfl)
theorem dX7_number_89 : decode cX7_number 89 = .ok (.isub, 1) := dk_100 (dk_at dksX7_number_3 17 rfl rfl)
theorem dX7_number_90 : decode cX7_number 90 = .ok (.sipush 1000, 3) := dk_17 3 232 (dk_at dksX7_number_3 18 rfl rfl)
theorem dX7_number_93 : decode cX7_number 93 = .ok (.invokestatic 56, 3) := dk_184 0 56 (dk_at dksX7_number_3 21 rfl rfl)
theorem dX7_number_96 : decode cX7_number 96 = .ok (.istore 4, 2) := dk_54 4 (dk_at dksX7_number_4 0 rfl rfl)
theorem dX7_number_98 : decode cX7_number 98 = .ok (.aload_n 0, 1) := dk_42 (dk_at dksX7_number_4 2 rfl rfl)
theorem dX7_number_99 : decode cX7_number 99 = .ok (.dup, 1) := dk_89 (dk_at dksX7_number_4 3 rfl rfl)
theorem dX7_number_100 : decode cX7_number 100 = .ok (.getfield 23, 3) := dk_180 0 23 (dk_at dksX7_number_4 4 rfl rfl)
theorem dX7_number_103 : decode cX7_number 103 = .ok (.iconst 1, 1) := dk_4 (dk_at dksX7_number_4 7 rfl rfl)
theorem dX7_number_104 : decode cX7_number 104 = .ok (.iadd, 1) := dk_96 (dk_at dksX7_number_4 8 rfl rfl)
theorem dX7_number_105 : decode cX7_number 105 = .ok (.putfield 23, 3) := dk_181 0 23 (dk_at dksX7_number_4 9 rfl rfl)
theorem dX7_number_108 : decode cX7_number 108 = .ok (.goto (-75), 3) := dk_167 255 181 (dk_at dksX7_number_4 12 rfl rfl)
theorem dX7_number_111 : decode cX7_number 111 = .ok (.iload 4, 2) := dk_21 4 (dk_at dksX7_number_4 15 rfl rfl)
theorem dX7_number_113 : decode cX7_number 113 = .ok (.iload_n 1, 1) := dk_27 (dk_at dksX7_number_4 17 rfl rfl)
theorem dX7_number_114 : decode cX7_number 114 = .ok (.if_icmp .lt 9, 3) := dk_161 0 9 (dk_at dksX7_number_4 18 rfl rfl)
theorem dX7_number_117 : decode cX7_number 117 = .ok (.iload 4, 2) := dk_21 4 (dk_at dksX7_number_4 21 rfl rfl)
theorem dX7_number_119 : decode cX7_number 119 = .ok (.iload_n 2, 1) := dk_28 (dk_at dksX7_number_4 23 rfl rfl)
theorem dX7_number_120 : decode cX7_number 120 = .ok (.if_icmp .le 16, 3) := dk_164 0 16 (dk_at dksX7_number_5 0 rfl rfl)
theorem dX7_number_123 : decode cX7_number 123 = .ok (.new 44, 3) := dk_187 0 44 (dk_at dksX7_number_5 3 rfl rfl)
theorem dX7_number_126 : decode cX7_number 126 = .ok (.dup, 1) := dk_89 (dk_at dksX7_number_5 6 rfl rfl)
theorem dX7_number_127 : decode cX7_number 127 = .ok (.iconst 2, 1) := dk_5 (dk_at dksX7_number_5 7 rfl rfl)
theorem dX7_number_128 : decode cX7_number 128 = .ok (.aload_n 0, 1) := dk_42 (dk_at dksX7_number_5 8 rfl rfl)
theorem dX7_number_129 : decode cX7_number 129 = .ok (.getfield 53, 3) := dk_180 0 53 (dk_at dksX7_number_5 9 rfl rfl)
theorem dX7_number_132 : decode cX7_number 132 = .ok (.invokespecial 46, 3) := dk_183 0 46 (dk_at dksX7_number_5 12 rfl rfl)
theorem dX7_number_135 : decode cX7_number 135 = .ok (.athrow, 1) := dk_191 (dk_at dksX7_number_5 15 rfl rfl)
theorem dX7_number_136 : decode cX7_number 136 = .ok (.iload 4, 2) := dk_21 4 (dk_at dksX7_number_5 16 rfl rfl)
theorem dX7_number_138 : decode cX7_number 138 = .ok (.ireturn, 1) := dk_172 (dk_at dksX7_number_5 18 rfl rfl)
abbrev cX7_any : ByteArray := prog_8_method_13_code
def yX7_any : MethodName := ⟨RX7, "any", "()J"⟩
def dkwX7_any_1 : List UInt8 := [31, 173]
abbrev dktX7_any_1 : List UInt8 := dkwX7_any_1 ++ []
def dkwX7_any_0 : List UInt8 := [42, 182, 0, 149, 64, 42, 18, 152, 182, 0, 154, 153, 0, 13, 31, 42, 182, 0, 149, 129, 64, 167, 255, 240]
abbrev dktX7_any_0 : List UInt8 := dkwX7_any_0 ++ dktX7_any_1
theorem dksX7_any_0 : cX7_any.data.toList.drop 0 = dktX7_any_0 := by decide +kernel
theorem dksX7_any_1 : cX7_any.data.toList.drop 24 = dktX7_any_1 := dk_seg dksX7_any_0 24 rfl rfl
theorem dX7_any_0 : decode cX7_any 0 = .ok (.aload_n 0, 1) := dk_42 (dk_at dksX7_any_0 0 rfl rfl)
theorem dX7_any_1 : decode cX7_any 1 = .ok (.invokevirtual 149, 3) := dk_182 0 149 (dk_at dksX7_any_0 1 rfl rfl)
theorem dX7_any_4 : decode cX7_any 4 = .ok (.lstore_n 1, 1) := dk_64 (dk_at dksX7_any_0 4 rfl rfl)
theorem dX7_any_5 : decode cX7_any 5 = .ok (.aload_n 0, 1) := dk_42 (dk_at dksX7_any_0 5 rfl rfl)
theorem dX7_any_6 : decode cX7_any 6 = .ok (.ldc 152, 2) := dk_18 152 (dk_at dksX7_any_0 6 rfl rfl)
theorem dX7_any_8 : decode cX7_any 8 = .ok (.invokevirtual 154, 3) := dk_182 0 154 (dk_at dksX7_any_0 8 rfl rfl)
theorem dX7_any_11 : decode cX7_any 11 = .ok (.ifCond .eq 13, 3) := dk_153 0 13 (dk_at dksX7_any_0 11 rfl rfl)
theorem dX7_any_14 : decode cX7_any 14 = .ok (.lload_n 1, 1) := dk_31 (dk_at dksX7_any_0 14 rfl rfl)
theorem dX7_any_15 : decode cX7_any 15 = .ok (.aload_n 0, 1) := dk_42 (dk_at dksX7_any_0 15 rfl rfl)
theorem dX7_any_16 : decode cX7_any 16 = .ok (.invokevirtual 149, 3) := dk_182 0 149 (dk_at dksX7_any_0 16 rfl rfl)
theorem dX7_any_19 : decode cX7_any 19 = .ok (.lor, 1) := dk_129 (dk_at dksX7_any_0 19 rfl rfl)
theorem dX7_any_20 : decode cX7_any 20 = .ok (.lstore_n 1, 1) := dk_64 (dk_at dksX7_any_0 20 rfl rfl)
theorem dX7_any_21 : decode cX7_any 21 = .ok (.goto (-16), 3) := dk_167 255 240 (dk_at dksX7_any_0 21 rfl rfl)
theorem dX7_any_24 : decode cX7_any 24 = .ok (.lload_n 1, 1) := dk_31 (dk_at dksX7_any_1 0 rfl rfl)
theorem dX7_any_25 : decode cX7_any 25 = .ok (.lreturn, 1) := dk_173 (dk_at dksX7_any_1 1 rfl rfl)
abbrev cX7_every : ByteArray := prog_8_method_14_code
def yX7_every : MethodName := ⟨RX7, "every", "()J"⟩
def dkwX7_every_1 : List UInt8 := [31, 173]
abbrev dktX7_every_1 : List UInt8 := dkwX7_every_1 ++ []
def dkwX7_every_0 : List UInt8 := [42, 182, 0, 157, 64, 42, 18, 160, 182, 0, 154, 153, 0, 13, 31, 42, 182, 0, 157, 127, 64, 167, 255, 240]
abbrev dktX7_every_0 : List UInt8 := dkwX7_every_0 ++ dktX7_every_1
theorem dksX7_every_0 : cX7_every.data.toList.drop 0 = dktX7_every_0 := by decide +kernel
theorem dksX7_every_1 : cX7_every.data.toList.drop 24 = dktX7_every_1 := dk_seg dksX7_every_0 24 rfl rfl
theorem dX7_every_0 : decode cX7_every 0 = .ok (.aload_n 0, 1) := dk_42 (dk_at dksX7_every_0 0 rfl rfl)
theorem dX7_every_1 : decode cX7_every 1 = .ok (.invokevirtual 157, 3) := dk_182 0 157 (dk_at dksX7_every_0 1 rfl rfl)
theorem dX7_every_4 : decode cX7_every 4 = .ok (.lstore_n 1, 1) := dk_64 (dk_at dksX7_every_0 4 rfl rfl)
theorem dX7_every_5 : decode cX7_every 5 = .ok (.aload_n 0, 1) := dk_42 (dk_at dksX7_every_0 5 rfl rfl)
theorem dX7_every_6 : decode cX7_every 6 = .ok (.ldc 160, 2) := dk_18 160 (dk_at dksX7_every_0 6 rfl rfl)
theorem dX7_every_8 : decode cX7_every 8 = .ok (.invokevirtual 154, 3) := dk_182 0 154 (dk_at dksX7_every_0 8 rfl rfl)
theorem dX7_every_11 : decode cX7_every 11 = .ok (.ifCond .eq 13, 3) := dk_153 0 13 (dk_at dksX7_every_0 11 rfl rfl)
theorem dX7_every_14 : decode cX7_every 14 = .ok (.lload_n 1, 1) := dk_31 (dk_at dksX7_every_0 14 rfl rfl)
theorem dX7_every_15 : decode cX7_every 15 = .ok (.aload_n 0, 1) := dk_42 (dk_at dksX7_every_0 15 rfl rfl)
theorem dX7_every_16 : decode cX7_every 16 = .ok (.invokevirtual 157, 3) := dk_182 0 157 (dk_at dksX7_every_0 16 rfl rfl)
theorem dX7_every_19 : decode cX7_every 19 = .ok (.land, 1) := dk_127 (dk_at dksX7_every_0 19 rfl rfl)
theorem dX7_every_20 : decode cX7_every 20 = .ok (.lstore_n 1, 1) := dk_64 (dk_at dksX7_every_0 20 rfl rfl)
theorem dX7_every_21 : decode cX7_every 21 = .ok (.goto (-16), 3) := dk_167 255 240 (dk_at dksX7_every_0 21 rfl rfl)
theorem dX7_every_24 : decode cX7_every 24 = .ok (.lload_n 1, 1) := dk_31 (dk_at dksX7_every_1 0 rfl rfl)
theorem dX7_every_25 : decode cX7_every 25 = .ok (.lreturn, 1) := dk_173 (dk_at dksX7_every_1 1 rfl rfl)
abbrev cX7_one : ByteArray := prog_8_method_15_code
def yX7_one : MethodName := ⟨RX7, "one", "()J"⟩
def dkwX7_one_8 : List UInt8 := [180, 0, 23, 4, 96, 181, 0, 23, 42, 180, 0, 19, 43, 3, 182, 0, 176, 16, 97, 100, 182, 0, 180, 173]
abbrev dktX7_one_8 : List UInt8 := dkwX7_one_8 ++ []
def dkwX7_one_7 : List UInt8 := [182, 0, 176, 16, 97, 100, 42, 180, 0, 19, 180, 0, 121, 161, 0, 8, 42, 182, 0, 49, 191, 42, 89]
abbrev dktX7_one_7 : List UInt8 := dkwX7_one_7 ++ dktX7_one_8
def dkwX7_one_6 : List UInt8 := [182, 0, 167, 32, 20, 0, 170, 131, 127, 22, 4, 129, 173, 43, 182, 0, 117, 4, 160, 0, 21, 43, 3]
abbrev dktX7_one_6 : List UInt8 := dkwX7_one_6 ++ dktX7_one_7
def dkwX7_one_5 : List UInt8 := [182, 0, 49, 191, 42, 182, 0, 157, 55, 4, 42, 89, 180, 0, 146, 4, 100, 181, 0, 146, 42, 180, 0, 19]
abbrev dktX7_one_5 : List UInt8 := dkwX7_one_5 ++ dktX7_one_6
def dkwX7_one_4 : List UInt8 := [153, 0, 60, 42, 5, 182, 0, 162, 42, 182, 0, 157, 65, 42, 18, 174, 182, 0, 154, 154, 0, 8, 42]
abbrev dktX7_one_4 : List UInt8 := dkwX7_one_4 ++ dktX7_one_5
def dkwX7_one_3 : List UInt8 := [181, 0, 146, 42, 180, 0, 19, 182, 0, 167, 32, 20, 0, 170, 131, 127, 173, 43, 18, 172, 182, 0, 85]
abbrev dktX7_one_3 : List UInt8 := dkwX7_one_3 ++ dktX7_one_4
def dkwX7_one_2 : List UInt8 := [182, 0, 85, 153, 0, 37, 42, 6, 182, 0, 162, 42, 182, 0, 157, 65, 42, 89, 180, 0, 146, 4, 100]
abbrev dktX7_one_2 : List UInt8 := dkwX7_one_2 ++ dktX7_one_3
def dkwX7_one_1 : List UInt8 := [182, 0, 69, 42, 89, 180, 0, 146, 4, 100, 181, 0, 146, 31, 173, 42, 182, 0, 62, 76, 43, 18, 165]
abbrev dktX7_one_1 : List UInt8 := dkwX7_one_1 ++ dktX7_one_2
def dkwX7_one_0 : List UInt8 := [42, 182, 0, 26, 16, 91, 160, 0, 31, 42, 4, 182, 0, 162, 42, 182, 0, 127, 64, 42, 16, 93]
abbrev dktX7_one_0 : List UInt8 := dkwX7_one_0 ++ dktX7_one_1
theorem dksX7_one_0 : cX7_one.data.toList.drop 0 = dktX7_one_0 := by decide +kernel
theorem dksX7_one_1 : cX7_one.data.toList.drop 22 = dktX7_one_1 := dk_seg dksX7_one_0 22 rfl rfl
theorem dksX7_one_2 : cX7_one.data.toList.drop 45 = dktX7_one_2 := dk_seg dksX7_one_1 23 rfl rfl
theorem dksX7_one_3 : cX7_one.data.toList.drop 68 = dktX7_one_3 := dk_seg dksX7_one_2 23 rfl rfl
theorem dksX7_one_4 : cX7_one.data.toList.drop 91 = dktX7_one_4 := dk_seg dksX7_one_3 23 rfl rfl
theorem dksX7_one_5 : cX7_one.data.toList.drop 114 = dktX7_one_5 := dk_seg dksX7_one_4 23 rfl rfl
theorem dksX7_one_6 : cX7_one.data.toList.drop 138 = dktX7_one_6 := dk_seg dksX7_one_5 24 rfl rfl
theorem dksX7_one_7 : cX7_one.data.toList.drop 161 = dktX7_one_7 := dk_seg dksX7_one_6 23 rfl rfl
theorem dksX7_one_8 : cX7_one.data.toList.drop 184 = dktX7_one_8 := dk_seg dksX7_one_7 23 rfl rfl
theorem dX7_one_0 : decode cX7_one 0 = .ok (.aload_n 0, 1) := dk_42 (dk_at dksX7_one_0 0 rfl rfl)
theorem dX7_one_1 : decode cX7_one 1 = .ok (.invokevirtual 26, 3) := dk_182 0 26 (dk_at dksX7_one_0 1 rfl rfl)
theorem dX7_one_4 : decode cX7_one 4 = .ok (.bipush 91, 2) := dk_16 91 (dk_at dksX7_one_0 4 rfl rfl)
theorem dX7_one_6 : decode cX7_one 6 = .ok (.if_icmp .ne 31, 3) := dk_160 0 31 (dk_at dksX7_one_0 6 rfl rfl)
theorem dX7_one_9 : decode cX7_one 9 = .ok (.aload_n 0, 1) := dk_42 (dk_at dksX7_one_0 9 rfl rfl)
theorem dX7_one_10 : decode cX7_one 10 = .ok (.iconst 1, 1) := dk_4 (dk_at dksX7_one_0 10 rfl rfl)
theorem dX7_one_11 : decode cX7_one 11 = .ok (.invokevirtual 162, 3) := dk_182 0 162 (dk_at dksX7_one_0 11 rfl rfl)
theorem dX7_one_14 : decode cX7_one 14 = .ok (.aload_n 0, 1) := dk_42 (dk_at dksX7_one_0 14 rfl rfl)
theorem dX7_one_15 : decode cX7_one 15 = .ok (.invokevirtual 127, 3) := dk_182 0 127 (dk_at dksX7_one_0 15 rfl rfl)
theorem dX7_one_18 : decode cX7_one 18 = .ok (.lstore_n 1, 1) := dk_64 (dk_at dksX7_one_0 18 rfl rfl)
theorem dX7_one_19 : decode cX7_one 19 = .ok (.aload_n 0, 1) := dk_42 (dk_at dksX7_one_0 19 rfl rfl)
theorem dX7_one_20 : decode cX7_one 20 = .ok (.bipush 93, 2) := dk_16 93 (dk_at dksX7_one_0 20 rfl rfl)
theorem dX7_one_22 : decode cX7_one 22 = .ok (.invokevirtual 69, 3) := dk_182 0 69 (dk_at dksX7_one_1 0 rfl rfl)
theorem dX7_one_25 : decode cX7_one 25 = .ok (.aload_n 0, 1) := dk_42 (dk_at dksX7_one_1 3 rfl rfl)
theorem dX7_one_26 : decode cX7_one 26 = .ok (.dup, 1) := dk_89 (dk_at dksX7_one_1 4 rfl rfl)
theorem dX7_one_27 : decode cX7_one 27 = .ok (.getfield 146, 3) := dk_180 0 146 (dk_at dksX7_one_1 5 rfl rfl)
theorem dX7_one_30 : decode cX7_one 30 = .ok (.iconst 1, 1) := dk_4 (dk_at dksX7_one_1 8 rfl rfl)
theorem dX7_one_31 : decode cX7_one 31 = .ok (.isub, 1) := dk_100 (dk_at dksX7_one_1 9 rfl rfl)
theorem dX7_one_32 : decode cX7_one 32 = .ok (.putfield 146, 3) := dk_181 0 146 (dk_at dksX7_one_1 10 rfl rfl)
theorem dX7_one_35 : decode cX7_one 35 = .ok (.lload_n 1, 1) := dk_31 (dk_at dksX7_one_1 13 rfl rfl)
theorem dX7_one_36 : decode cX7_one 36 = .ok (.lreturn, 1) := dk_173 (dk_at dksX7_one_1 14 rfl rfl)
theorem dX7_one_37 : decode cX7_one 37 = .ok (.aload_n 0, 1) := dk_42 (dk_at dksX7_one_1 15 rfl rfl)
theorem dX7_one_38 : decode cX7_one 38 = .ok (.invokevirtual 62, 3) := dk_182 0 62 (dk_at dksX7_one_1 16 rfl rfl)
theorem dX7_one_41 : decode cX7_one 41 = .ok (.astore_n 1, 1) := dk_76 (dk_at dksX7_one_1 19 rfl rfl)
theorem dX7_one_42 : decode cX7_one 42 = .ok (.aload_n 1, 1) := dk_43 (dk_at dksX7_one_1 20 rfl rfl)
theorem dX7_one_43 : decode cX7_one 43 = .ok (.ldc 165, 2) := dk_18 165 (dk_at dksX7_one_1 21 rfl rfl)
theorem dX7_one_45 : decode cX7_one 45 = .ok (.invokevirtual 85, 3) := dk_182 0 85 (dk_at dksX7_one_2 0 rfl rfl)
theorem dX7_one_48 : decode cX7_one 48 = .ok (.ifCond .eq 37, 3) := dk_153 0 37 (dk_at dksX7_one_2 3 rfl rfl)
theorem dX7_one_51 : decode cX7_one 51 = .ok (.aload_n 0, 1) := dk_42 (dk_at dksX7_one_2 6 rfl rfl)
theorem dX7_one_52 : decode cX7_one 52 = .ok (.iconst 3, 1) := dk_6 (dk_at dksX7_one_2 7 rfl rfl)
theorem dX7_one_53 : decode cX7_one 53 = .ok (.invokevirtual 162, 3) := dk_182 0 162 (dk_at dksX7_one_2 8 rfl rfl)
theorem dX7_one_56 : decode cX7_one 56 = .ok (.aload_n 0, 1) := dk_42 (dk_at dksX7_one_2 11 rfl rfl)
theorem dX7_one_57 : decode cX7_one 57 = .ok (.invokevirtual 157, 3) := dk_182 0 157 (dk_at dksX7_one_2 12 rfl rfl)
theorem dX7_one_60 : decode cX7_one 60 = .ok (.lstore_n 2, 1) := dk_65 (dk_at dksX7_one_2 15 rfl rfl)
theorem dX7_one_61 : decode cX7_one 61 = .ok (.aload_n 0, 1) := dk_42 (dk_at dksX7_one_2 16 rfl rfl)
theorem dX7_one_62 : decode cX7_one 62 = .ok (.dup, 1) := dk_89 (dk_at dksX7_one_2 17 rfl rfl)
theorem dX7_one_63 : decode cX7_one 63 = .ok (.getfield 146, 3) := dk_180 0 146 (dk_at dksX7_one_2 18 rfl rfl)
theorem dX7_one_66 : decode cX7_one 66 = .ok (.iconst 1, 1) := dk_4 (dk_at dksX7_one_2 21 rfl rfl)
theorem dX7_one_67 : decode cX7_one 67 = .ok (.isub, 1) := dk_100 (dk_at dksX7_one_2 22 rfl rfl)
theorem dX7_one_68 : decode cX7_one 68 = .ok (.putfield 146, 3) := dk_181 0 146 (dk_at dksX7_one_3 0 rfl rfl)
theorem dX7_one_71 : decode cX7_one 71 = .ok (.aload_n 0, 1) := dk_42 (dk_at dksX7_one_3 3 rfl rfl)
theorem dX7_one_72 : decode cX7_one 72 = .ok (.getfield 19, 3) := dk_180 0 19 (dk_at dksX7_one_3 4 rfl rfl)
theorem dX7_one_75 : decode cX7_one 75 = .ok (.invokevirtual 167, 3) := dk_182 0 167 (dk_at dksX7_one_3 7 rfl rfl)
theorem dX7_one_78 : decode cX7_one 78 = .ok (.lload_n 2, 1) := dk_32 (dk_at dksX7_one_3 10 rfl rfl)
theorem dX7_one_79 : decode cX7_one 79 = .ok (.ldc2_w 170, 3) := dk_20 0 170 (dk_at dksX7_one_3 11 rfl rfl)
theorem dX7_one_82 : decode cX7_one 82 = .ok (.lxor, 1) := dk_131 (dk_at dksX7_one_3 14 rfl rfl)
theorem dX7_one_83 : decode cX7_one 83 = .ok (.land, 1) := dk_127 (dk_at dksX7_one_3 15 rfl rfl)
theorem dX7_one_84 : decode cX7_one 84 = .ok (.lreturn, 1) := dk_173 (dk_at dksX7_one_3 16 rfl rfl)
theorem dX7_one_85 : decode cX7_one 85 = .ok (.aload_n 1, 1) := dk_43 (dk_at dksX7_one_3 17 rfl rfl)
theorem dX7_one_86 : decode cX7_one 86 = .ok (.ldc 172, 2) := dk_18 172 (dk_at dksX7_one_3 18 rfl rfl)
theorem dX7_one_88 : decode cX7_one 88 = .ok (.invokevirtual 85, 3) := dk_182 0 85 (dk_at dksX7_one_3 20 rfl rfl)
theorem dX7_one_91 : decode cX7_one 91 = .ok (.ifCond .eq 60, 3) := dk_153 0 60 (dk_at dksX7_one_4 0 rfl rfl)
theorem dX7_one_94 : decode cX7_one 94 = .ok (.aload_n 0, 1) := dk_42 (dk_at dksX7_one_4 3 rfl rfl)
theorem dX7_one_95 : decode cX7_one 95 = .ok (.iconst 2, 1) := dk_5 (dk_at dksX7_one_4 4 rfl rfl)
theorem dX7_one_96 : decode cX7_one 96 = .ok (.invokevirtual 162, 3) := dk_182 0 162 (dk_at dksX7_one_4 5 rfl rfl)
theorem dX7_one_99 : decode cX7_one 99 = .ok (.aload_n 0, 1) := dk_42 (dk_at dksX7_one_4 8 rfl rfl)
theorem dX7_one_100 : decode cX7_one 100 = .ok (.invokevirtual 157, 3) := dk_182 0 157 (dk_at dksX7_one_4 9 rfl rfl)
theorem dX7_one_103 : decode cX7_one 103 = .ok (.lstore_n 2, 1) := dk_65 (dk_at dksX7_one_4 12 rfl rfl)
theorem dX7_one_104 : decode cX7_one 104 = .ok (.aload_n 0, 1) := dk_42 (dk_at dksX7_one_4 13 rfl rfl)
theorem dX7_one_105 : decode cX7_one 105 = .ok (.ldc 174, 2) := dk_18 174 (dk_at dksX7_one_4 14 rfl rfl)
theorem dX7_one_107 : decode cX7_one 107 = .ok (.invokevirtual 154, 3) := dk_182 0 154 (dk_at dksX7_one_4 16 rfl rfl)
theorem dX7_one_110 : decode cX7_one 110 = .ok (.ifCond .ne 8, 3) := dk_154 0 8 (dk_at dksX7_one_4 19 rfl rfl)
theorem dX7_one_113 : decode cX7_one 113 = .ok (.aload_n 0, 1) := dk_42 (dk_at dksX7_one_4 22 rfl rfl)
theorem dX7_one_114 : decode cX7_one 114 = .ok (.invokevirtual 49, 3) := dk_182 0 49 (dk_at dksX7_one_5 0 rfl rfl)
theorem dX7_one_117 : decode cX7_one 117 = .ok (.athrow, 1) := dk_191 (dk_at dksX7_one_5 3 rfl rfl)
theorem dX7_one_118 : decode cX7_one 118 = .ok (.aload_n 0, 1) := dk_42 (dk_at dksX7_one_5 4 rfl rfl)
theorem dX7_one_119 : decode cX7_one 119 = .ok (.invokevirtual 157, 3) := dk_182 0 157 (dk_at dksX7_one_5 5 rfl rfl)
theorem dX7_one_122 : decode cX7_one 122 = .ok (.lstore 4, 2) := dk_55 4 (dk_at dksX7_one_5 8 rfl rfl)
theorem dX7_one_124 : decode cX7_one 124 = .ok (.aload_n 0, 1) := dk_42 (dk_at dksX7_one_5 10 rfl rfl)
theorem dX7_one_125 : decode cX7_one 125 = .ok (.dup, 1) := dk_89 (dk_at dksX7_one_5 11 rfl rfl)
theorem dX7_one_126 : decode cX7_one 126 = .ok (.getfield 146, 3) := dk_180 0 146 (dk_at dksX7_one_5 12 rfl rfl)
theorem dX7_one_129 : decode cX7_one 129 = .ok (.iconst 1, 1) := dk_4 (dk_at dksX7_one_5 15 rfl rfl)
theorem dX7_one_130 : decode cX7_one 130 = .ok (.isub, 1) := dk_100 (dk_at dksX7_one_5 16 rfl rfl)
theorem dX7_one_131 : decode cX7_one 131 = .ok (.putfield 146, 3) := dk_181 0 146 (dk_at dksX7_one_5 17 rfl rfl)
theorem dX7_one_134 : decode cX7_one 134 = .ok (.aload_n 0, 1) := dk_42 (dk_at dksX7_one_5 20 rfl rfl)
theorem dX7_one_135 : decode cX7_one 135 = .ok (.getfield 19, 3) := dk_180 0 19 (dk_at dksX7_one_5 21 rfl rfl)
theorem dX7_one_138 : decode cX7_one 138 = .ok (.invokevirtual 167, 3) := dk_182 0 167 (dk_at dksX7_one_6 0 rfl rfl)
theorem dX7_one_141 : decode cX7_one 141 = .ok (.lload_n 2, 1) := dk_32 (dk_at dksX7_one_6 3 rfl rfl)
theorem dX7_one_142 : decode cX7_one 142 = .ok (.ldc2_w 170, 3) := dk_20 0 170 (dk_at dksX7_one_6 4 rfl rfl)
theorem dX7_one_145 : decode cX7_one 145 = .ok (.lxor, 1) := dk_131 (dk_at dksX7_one_6 7 rfl rfl)
theorem dX7_one_146 : decode cX7_one 146 = .ok (.land, 1) := dk_127 (dk_at dksX7_one_6 8 rfl rfl)
theorem dX7_one_147 : decode cX7_one 147 = .ok (.lload 4, 2) := dk_22 4 (dk_at dksX7_one_6 9 rfl rfl)
theorem dX7_one_149 : decode cX7_one 149 = .ok (.lor, 1) := dk_129 (dk_at dksX7_one_6 11 rfl rfl)
theorem dX7_one_150 : decode cX7_one 150 = .ok (.lreturn, 1) := dk_173 (dk_at dksX7_one_6 12 rfl rfl)
theorem dX7_one_151 : decode cX7_one 151 = .ok (.aload_n 1, 1) := dk_43 (dk_at dksX7_one_6 13 rfl rfl)
theorem dX7_one_152 : decode cX7_one 152 = .ok (.invokevirtual 117, 3) := dk_182 0 117 (dk_at dksX7_one_6 14 rfl rfl)
theorem dX7_one_155 : decode cX7_one 155 = .ok (.iconst 1, 1) := dk_4 (dk_at dksX7_one_6 17 rfl rfl)
theorem dX7_one_156 : decode cX7_one 156 = .ok (.if_icmp .ne 21, 3) := dk_160 0 21 (dk_at dksX7_one_6 18 rfl rfl)
theorem dX7_one_159 : decode cX7_one 159 = .ok (.aload_n 1, 1) := dk_43 (dk_at dksX7_one_6 21 rfl rfl)
theorem dX7_one_160 : decode cX7_one 160 = .ok (.iconst 0, 1) := dk_3 (dk_at dksX7_one_6 22 rfl rfl)
theorem dX7_one_161 : decode cX7_one 161 = .ok (.invokevirtual 176, 3) := dk_182 0 176 (dk_at dksX7_one_7 0 rfl rfl)
theorem dX7_one_164 : decode cX7_one 164 = .ok (.bipush 97, 2) := dk_16 97 (dk_at dksX7_one_7 3 rfl rfl)
theorem dX7_one_166 : decode cX7_one 166 = .ok (.isub, 1) := dk_100 (dk_at dksX7_one_7 5 rfl rfl)
theorem dX7_one_167 : decode cX7_one 167 = .ok (.aload_n 0, 1) := dk_42 (dk_at dksX7_one_7 6 rfl rfl)
theorem dX7_one_168 : decode cX7_one 168 = .ok (.getfield 19, 3) := dk_180 0 19 (dk_at dksX7_one_7 7 rfl rfl)
theorem dX7_one_171 : decode cX7_one 171 = .ok (.getfield 121, 3) := dk_180 0 121 (dk_at dksX7_one_7 10 rfl rfl)
theorem dX7_one_174 : decode cX7_one 174 = .ok (.if_icmp .lt 8, 3) := dk_161 0 8 (dk_at dksX7_one_7 13 rfl rfl)
theorem dX7_one_177 : decode cX7_one 177 = .ok (.aload_n 0, 1) := dk_42 (dk_at dksX7_one_7 16 rfl rfl)
theorem dX7_one_178 : decode cX7_one 178 = .ok (.invokevirtual 49, 3) := dk_182 0 49 (dk_at dksX7_one_7 17 rfl rfl)
theorem dX7_one_181 : decode cX7_one 181 = .ok (.athrow, 1) := dk_191 (dk_at dksX7_one_7 20 rfl rfl)
theorem dX7_one_182 : decode cX7_one 182 = .ok (.aload_n 0, 1) := dk_42 (dk_at dksX7_one_7 21 rfl rfl)
theorem dX7_one_183 : decode cX7_one 183 = .ok (.dup, 1) := dk_89 (dk_at dksX7_one_7 22 rfl rfl)
theorem dX7_one_184 : decode cX7_one 184 = .ok (.getfield 23, 3) := dk_180 0 23 (dk_at dksX7_one_8 0 rfl rfl)
theorem dX7_one_187 : decode cX7_one 187 = .ok (.iconst 1, 1) := dk_4 (dk_at dksX7_one_8 3 rfl rfl)
theorem dX7_one_188 : decode cX7_one 188 = .ok (.iadd, 1) := dk_96 (dk_at dksX7_one_8 4 rfl rfl)
theorem dX7_one_189 : decode cX7_one 189 = .ok (.putfield 23, 3) := dk_181 0 23 (dk_at dksX7_one_8 5 rfl rfl)
theorem dX7_one_192 : decode cX7_one 192 = .ok (.aload_n 0, 1) := dk_42 (dk_at dksX7_one_8 8 rfl rfl)
theorem dX7_one_193 : decode cX7_one 193 = .ok (.getfield 19, 3) := dk_180 0 19 (dk_at dksX7_one_8 9 rfl rfl)
theorem dX7_one_196 : decode cX7_one 196 = .ok (.aload_n 1, 1) := dk_43 (dk_at dksX7_one_8 12 rfl rfl)
theorem dX7_one_197 : decode cX7_one 197 = .ok (.iconst 0, 1) := dk_3 (dk_at dksX7_one_8 13 rfl rfl)
theorem dX7_one_198 : decode cX7_one 198 = .ok (.invokevirtual 176, 3) := dk_182 0 176 (dk_at dksX7_one_8 14 rfl rfl)
theorem dX7_one_201 : decode cX7_one 201 = .ok (.bipush 97, 2) := dk_16 97 (dk_at dksX7_one_8 17 rfl rfl)
theorem dX7_one_203 : decode cX7_one 203 = .ok (.isub, 1) := dk_100 (dk_at dksX7_one_8 19 rfl rfl)
theorem dX7_one_204 : decode cX7_one 204 = .ok (.invokevirtual 180, 3) := dk_182 0 180 (dk_at dksX7_one_8 20 rfl rfl)
theorem dX7_one_207 : decode cX7_one 207 = .ok (.lreturn, 1) := dk_173 (dk_at dksX7_one_8 23 rfl rfl)
abbrev cX7_opens : ByteArray := prog_8_method_12_code
def yX7_opens : MethodName := ⟨RX7, "opens", "(I)V"⟩
def dkwX7_opens_1 : List UInt8 := [180, 0, 23, 27, 96, 181, 0, 23, 42, 89, 180, 0, 146, 4, 96, 181, 0, 146, 177]
abbrev dktX7_opens_1 : List UInt8 := dkwX7_opens_1 ++ []
def dkwX7_opens_0 : List UInt8 := [42, 180, 0, 146, 16, 6, 160, 0, 16, 187, 0, 44, 89, 6, 42, 180, 0, 23, 183, 0, 46, 191, 42, 89]
abbrev dktX7_opens_0 : List UInt8 := dkwX7_opens_0 ++ dktX7_opens_1
theorem dksX7_opens_0 : cX7_opens.data.toList.drop 0 = dktX7_opens_0 := by decide +kernel
theorem dksX7_opens_1 : cX7_opens.data.toList.drop 24 = dktX7_opens_1 := dk_seg dksX7_opens_0 24 rfl rfl
theorem dX7_opens_0 : decode cX7_opens 0 = .ok (.aload_n 0, 1) := dk_42 (dk_at dksX7_opens_0 0 rfl rfl)
theorem dX7_opens_1 : decode cX7_opens 1 = .ok (.getfield 146, 3) := dk_180 0 146 (dk_at dksX7_opens_0 1 rfl rfl)
theorem dX7_opens_4 : decode cX7_opens 4 = .ok (.bipush 6, 2) := dk_16 6 (dk_at dksX7_opens_0 4 rfl rfl)
theorem dX7_opens_6 : decode cX7_opens 6 = .ok (.if_icmp .ne 16, 3) := dk_160 0 16 (dk_at dksX7_opens_0 6 rfl rfl)
theorem dX7_opens_9 : decode cX7_opens 9 = .ok (.new 44, 3) := dk_187 0 44 (dk_at dksX7_opens_0 9 rfl rfl)
theorem dX7_opens_12 : decode cX7_opens 12 = .ok (.dup, 1) := dk_89 (dk_at dksX7_opens_0 12 rfl rfl)
theorem dX7_opens_13 : decode cX7_opens 13 = .ok (.iconst 3, 1) := dk_6 (dk_at dksX7_opens_0 13 rfl rfl)
theorem dX7_opens_14 : decode cX7_opens 14 = .ok (.aload_n 0, 1) := dk_42 (dk_at dksX7_opens_0 14 rfl rfl)
theorem dX7_opens_15 : decode cX7_opens 15 = .ok (.getfield 23, 3) := dk_180 0 23 (dk_at dksX7_opens_0 15 rfl rfl)
theorem dX7_opens_18 : decode cX7_opens 18 = .ok (.invokespecial 46, 3) := dk_183 0 46 (dk_at dksX7_opens_0 18 rfl rfl)
theorem dX7_opens_21 : decode cX7_opens 21 = .ok (.athrow, 1) := dk_191 (dk_at dksX7_opens_0 21 rfl rfl)
theorem dX7_opens_22 : decode cX7_opens 22 = .ok (.aload_n 0, 1) := dk_42 (dk_at dksX7_opens_0 22 rfl rfl)
theorem dX7_opens_23 : decode cX7_opens 23 = .ok (.dup, 1) := dk_89 (dk_at dksX7_opens_0 23 rfl rfl)
theorem dX7_opens_24 : decode cX7_opens 24 = .ok (.getfield 23, 3) := dk_180 0 23 (dk_at dksX7_opens_1 0 rfl rfl)
theorem dX7_opens_27 : decode cX7_opens 27 = .ok (.iload_n 1, 1) := dk_27 (dk_at dksX7_opens_1 3 rfl rfl)
theorem dX7_opens_28 : decode cX7_opens 28 = .ok (.iadd, 1) := dk_96 (dk_at dksX7_opens_1 4 rfl rfl)
theorem dX7_opens_29 : decode cX7_opens 29 = .ok (.putfield 23, 3) := dk_181 0 23 (dk_at dksX7_opens_1 5 rfl rfl)
theorem dX7_opens_32 : decode cX7_opens 32 = .ok (.aload_n 0, 1) := dk_42 (dk_at dksX7_opens_1 8 rfl rfl)
theorem dX7_opens_33 : decode cX7_opens 33 = .ok (.dup, 1) := dk_89 (dk_at dksX7_opens_1 9 rfl rfl)
theorem dX7_opens_34 : decode cX7_opens 34 = .ok (.getfield 146, 3) := dk_180 0 146 (dk_at dksX7_opens_1 10 rfl rfl)
theorem dX7_opens_37 : decode cX7_opens 37 = .ok (.iconst 1, 1) := dk_4 (dk_at dksX7_opens_1 13 rfl rfl)
theorem dX7_opens_38 : decode cX7_opens 38 = .ok (.iadd, 1) := dk_96 (dk_at dksX7_opens_1 14 rfl rfl)
theorem dX7_opens_39 : decode cX7_opens 39 = .ok (.putfield 146, 3) := dk_181 0 146 (dk_at dksX7_opens_1 15 rfl rfl)
theorem dX7_opens_42 : decode cX7_opens 42 = .ok (.return_, 1) := dk_177 (dk_at dksX7_opens_1 18 rfl rfl)
abbrev cX7_need : ByteArray := prog_8_method_5_code
def yX7_need : MethodName := ⟨RX7, "need", "(I)V"⟩
def dkwX7_need_0 : List UInt8 := [42, 182, 0, 26, 27, 159, 0, 8, 42, 182, 0, 49, 191, 42, 89, 180, 0, 23, 4, 96, 181, 0, 23, 177]
abbrev dktX7_need_0 : List UInt8 := dkwX7_need_0 ++ []
theorem dksX7_need_0 : cX7_need.data.toList.drop 0 = dktX7_need_0 := by decide +kernel
theorem dX7_need_0 : decode cX7_need 0 = .ok (.aload_n 0, 1) := dk_42 (dk_at dksX7_need_0 0 rfl rfl)
theorem dX7_need_1 : decode cX7_need 1 = .ok (.invokevirtual 26, 3) := dk_182 0 26 (dk_at dksX7_need_0 1 rfl rfl)
theorem dX7_need_4 : decode cX7_need 4 = .ok (.iload_n 1, 1) := dk_27 (dk_at dksX7_need_0 4 rfl rfl)
theorem dX7_need_5 : decode cX7_need 5 = .ok (.if_icmp .eq 8, 3) := dk_159 0 8 (dk_at dksX7_need_0 5 rfl rfl)
theorem dX7_need_8 : decode cX7_need 8 = .ok (.aload_n 0, 1) := dk_42 (dk_at dksX7_need_0 8 rfl rfl)
theorem dX7_need_9 : decode cX7_need 9 = .ok (.invokevirtual 49, 3) := dk_182 0 49 (dk_at dksX7_need_0 9 rfl rfl)
theorem dX7_need_12 : decode cX7_need 12 = .ok (.athrow, 1) := dk_191 (dk_at dksX7_need_0 12 rfl rfl)
theorem dX7_need_13 : decode cX7_need 13 = .ok (.aload_n 0, 1) := dk_42 (dk_at dksX7_need_0 13 rfl rfl)
theorem dX7_need_14 : decode cX7_need 14 = .ok (.dup, 1) := dk_89 (dk_at dksX7_need_0 14 rfl rfl)
theorem dX7_need_15 : decode cX7_need 15 = .ok (.getfield 23, 3) := dk_180 0 23 (dk_at dksX7_need_0 15 rfl rfl)
theorem dX7_need_18 : decode cX7_need 18 = .ok (.iconst 1, 1) := dk_4 (dk_at dksX7_need_0 18 rfl rfl)
theorem dX7_need_19 : decode cX7_need 19 = .ok (.iadd, 1) := dk_96 (dk_at dksX7_need_0 19 rfl rfl)
theorem dX7_need_20 : decode cX7_need 20 = .ok (.putfield 23, 3) := dk_181 0 23 (dk_at dksX7_need_0 20 rfl rfl)
theorem dX7_need_23 : decode cX7_need 23 = .ok (.return_, 1) := dk_177 (dk_at dksX7_need_0 23 rfl rfl)
abbrev cX7_takes : ByteArray := prog_8_method_11_code
def yX7_takes : MethodName := ⟨RX7, "takes", "(Ljava/lang/String;)Z"⟩
def dkwX7_takes_1 : List UInt8 := [181, 0, 23, 4, 172]
abbrev dktX7_takes_1 : List UInt8 := dkwX7_takes_1 ++ []
def dkwX7_takes_0 : List UInt8 := [42, 182, 0, 62, 43, 182, 0, 85, 154, 0, 5, 3, 172, 42, 89, 180, 0, 23, 43, 182, 0, 117, 96]
abbrev dktX7_takes_0 : List UInt8 := dkwX7_takes_0 ++ dktX7_takes_1
theorem dksX7_takes_0 : cX7_takes.data.toList.drop 0 = dktX7_takes_0 := by decide +kernel
theorem dksX7_takes_1 : cX7_takes.data.toList.drop 23 = dktX7_takes_1 := dk_seg dksX7_takes_0 23 rfl rfl
theorem dX7_takes_0 : decode cX7_takes 0 = .ok (.aload_n 0, 1) := dk_42 (dk_at dksX7_takes_0 0 rfl rfl)
theorem dX7_takes_1 : decode cX7_takes 1 = .ok (.invokevirtual 62, 3) := dk_182 0 62 (dk_at dksX7_takes_0 1 rfl rfl)
theorem dX7_takes_4 : decode cX7_takes 4 = .ok (.aload_n 1, 1) := dk_43 (dk_at dksX7_takes_0 4 rfl rfl)
theorem dX7_takes_5 : decode cX7_takes 5 = .ok (.invokevirtual 85, 3) := dk_182 0 85 (dk_at dksX7_takes_0 5 rfl rfl)
theorem dX7_takes_8 : decode cX7_takes 8 = .ok (.ifCond .ne 5, 3) := dk_154 0 5 (dk_at dksX7_takes_0 8 rfl rfl)
theorem dX7_takes_11 : decode cX7_takes 11 = .ok (.iconst 0, 1) := dk_3 (dk_at dksX7_takes_0 11 rfl rfl)
theorem dX7_takes_12 : decode cX7_takes 12 = .ok (.ireturn, 1) := dk_172 (dk_at dksX7_takes_0 12 rfl rfl)
theorem dX7_takes_13 : decode cX7_takes 13 = .ok (.aload_n 0, 1) := dk_42 (dk_at dksX7_takes_0 13 rfl rfl)
theorem dX7_takes_14 : decode cX7_takes 14 = .ok (.dup, 1) := dk_89 (dk_at dksX7_takes_0 14 rfl rfl)
theorem dX7_takes_15 : decode cX7_takes 15 = .ok (.getfield 23, 3) := dk_180 0 23 (dk_at dksX7_takes_0 15 rfl rfl)
theorem dX7_takes_18 : decode cX7_takes 18 = .ok (.aload_n 1, 1) := dk_43 (dk_at dksX7_takes_0 18 rfl rfl)
theorem dX7_takes_19 : decode cX7_takes 19 = .ok (.invokevirtual 117, 3) := dk_182 0 117 (dk_at dksX7_takes_0 19 rfl rfl)
theorem dX7_takes_22 : decode cX7_takes 22 = .ok (.iadd, 1) := dk_96 (dk_at dksX7_takes_0 22 rfl rfl)
theorem dX7_takes_23 : decode cX7_takes 23 = .ok (.putfield 23, 3) := dk_181 0 23 (dk_at dksX7_takes_1 0 rfl rfl)
theorem dX7_takes_26 : decode cX7_takes 26 = .ok (.iconst 1, 1) := dk_4 (dk_at dksX7_takes_1 3 rfl rfl)
theorem dX7_takes_27 : decode cX7_takes 27 = .ok (.ireturn, 1) := dk_172 (dk_at dksX7_takes_1 4 rfl rfl)
abbrev cX7_question : ByteArray := prog_8_method_10_code
def yX7_question : MethodName := ⟨RX7, "question", "()J"⟩
def dkwX7_question_1 : List UInt8 := [182, 0, 49, 191, 31, 173]
abbrev dktX7_question_1 : List UInt8 := dkwX7_question_1 ++ []
def dkwX7_question_0 : List UInt8 := [42, 182, 0, 127, 64, 42, 182, 0, 26, 87, 42, 180, 0, 23, 42, 180, 0, 15, 162, 0, 8, 42]
abbrev dktX7_question_0 : List UInt8 := dkwX7_question_0 ++ dktX7_question_1
theorem dksX7_question_0 : cX7_question.data.toList.drop 0 = dktX7_question_0 := by decide +kernel
theorem dksX7_question_1 : cX7_question.data.toList.drop 22 = dktX7_question_1 := dk_seg dksX7_question_0 22 rfl rfl
theorem dX7_question_0 : decode cX7_question 0 = .ok (.aload_n 0, 1) := dk_42 (dk_at dksX7_question_0 0 rfl rfl)
theorem dX7_question_1 : decode cX7_question 1 = .ok (.invokevirtual 127, 3) := dk_182 0 127 (dk_at dksX7_question_0 1 rfl rfl)
theorem dX7_question_4 : decode cX7_question 4 = .ok (.lstore_n 1, 1) := dk_64 (dk_at dksX7_question_0 4 rfl rfl)
theorem dX7_question_5 : decode cX7_question 5 = .ok (.aload_n 0, 1) := dk_42 (dk_at dksX7_question_0 5 rfl rfl)
theorem dX7_question_6 : decode cX7_question 6 = .ok (.invokevirtual 26, 3) := dk_182 0 26 (dk_at dksX7_question_0 6 rfl rfl)
theorem dX7_question_9 : decode cX7_question 9 = .ok (.pop, 1) := dk_87 (dk_at dksX7_question_0 9 rfl rfl)
theorem dX7_question_10 : decode cX7_question 10 = .ok (.aload_n 0, 1) := dk_42 (dk_at dksX7_question_0 10 rfl rfl)
theorem dX7_question_11 : decode cX7_question 11 = .ok (.getfield 23, 3) := dk_180 0 23 (dk_at dksX7_question_0 11 rfl rfl)
theorem dX7_question_14 : decode cX7_question 14 = .ok (.aload_n 0, 1) := dk_42 (dk_at dksX7_question_0 14 rfl rfl)
theorem dX7_question_15 : decode cX7_question 15 = .ok (.getfield 15, 3) := dk_180 0 15 (dk_at dksX7_question_0 15 rfl rfl)
theorem dX7_question_18 : decode cX7_question 18 = .ok (.if_icmp .ge 8, 3) := dk_162 0 8 (dk_at dksX7_question_0 18 rfl rfl)
theorem dX7_question_21 : decode cX7_question 21 = .ok (.aload_n 0, 1) := dk_42 (dk_at dksX7_question_0 21 rfl rfl)
theorem dX7_question_22 : decode cX7_question 22 = .ok (.invokevirtual 49, 3) := dk_182 0 49 (dk_at dksX7_question_1 0 rfl rfl)
theorem dX7_question_25 : decode cX7_question 25 = .ok (.athrow, 1) := dk_191 (dk_at dksX7_question_1 3 rfl rfl)
theorem dX7_question_26 : decode cX7_question 26 = .ok (.lload_n 1, 1) := dk_31 (dk_at dksX7_question_1 4 rfl rfl)
theorem dX7_question_27 : decode cX7_question 27 = .ok (.lreturn, 1) := dk_173 (dk_at dksX7_question_1 5 rfl rfl)
theorem q151 : (Jvm.Cond.initialized "LotBeliefs$Reader") ∈ lw_all := lw_g (lw_at lw_m1 27 rfl) rfl
theorem q527 : (Jvm.Cond.fieldLinkNest "LotBeliefs$Reader" (96 : Nat) "LotBeliefs$Jar" "seeings" "Ljava/util/ArrayList;" "LotBeliefs") ∈ lw_tbl := lw_at lw_m2 163 rfl
theorem q532 : (Jvm.Cond.fieldLinkNest "LotBeliefs$Reader" (123 : Nat) "LotBeliefs$Jar" "models" "[J" "LotBeliefs") ∈ lw_tbl := lw_at lw_m2 168 rfl
theorem q534 : (Jvm.Cond.fieldLinkNest "LotBeliefs$Reader" (121 : Nat) "LotBeliefs$Jar" "atoms" "I" "LotBeliefs") ∈ lw_tbl := lw_at lw_m2 170 rfl
theorem q537 : (Jvm.Cond.fieldLinkNest "LotBeliefs$Reader" (93 : Nat) "LotBeliefs$Jar" "slips" "I" "LotBeliefs") ∈ lw_tbl := lw_at lw_m2 173 rfl
theorem q538 : (Jvm.Cond.fieldLinkNest "LotBeliefs$Reader" (104 : Nat) "LotBeliefs$Jar" "salts" "I" "LotBeliefs") ∈ lw_tbl := lw_at lw_m2 174 rfl
theorem q541 : (Jvm.Cond.fieldLinkNest "LotBeliefs$Reader" (142 : Nat) "LotBeliefs$Jar" "world" "I" "LotBeliefs") ∈ lw_tbl := lw_at lw_m2 177 rfl
theorem q543 : (Jvm.Cond.fieldLinkNest "LotBeliefs$Reader" (144 : Nat) "LotBeliefs$Jar" "law" "I" "LotBeliefs") ∈ lw_tbl := lw_at lw_m2 179 rfl
theorem q544 : (Jvm.Cond.fieldLinkNest "LotBeliefs$Reader" (73 : Nat) "LotBeliefs$Jar" "clauses" "I" "LotBeliefs") ∈ lw_tbl := lw_at lw_m2 180 rfl
theorem q1015 : (Jvm.Cond.instantiable "LotBeliefs$Reader" (6 : Nat)) ∈ lw_all := lw_g (lw_at lw_m4 171 rfl) rfl
theorem q1017 : (Jvm.Cond.instanceMethod ({ cls := "LotBeliefs$Reader", name := "<init>", desc := "([BILLotBeliefs$Jar;)V" } : Jvm.MethodName)) ∈ lw_all := lw_g (lw_at lw_m4 173 rfl) rfl
theorem q1018 : (Jvm.Cond.code ({ cls := "LotBeliefs$Reader", name := "<init>", desc := "([BILLotBeliefs$Jar;)V" } : Jvm.MethodName) prog_8_method_1_code (4 : Nat) (Option.none : Option Jvm.ClassFile.FieldType)) ∈ lw_all := lw_g (lw_at lw_m4 174 rfl) rfl
theorem q1019 : (Jvm.Cond.methodLink "LotBeliefs$Reader" (3 : Nat) ({ cls := "java/lang/Object", name := "<init>", desc := "()V" } : Jvm.MethodName)) ∈ lw_all := lw_g (lw_at lw_m4 175 rfl) rfl
theorem q1020 : (Jvm.Cond.fieldLink "LotBeliefs$Reader" (9 : Nat) "LotBeliefs$Reader" "text" "[B") ∈ lw_all := lw_g (lw_at lw_m4 176 rfl) rfl
theorem q1021 : (Jvm.Cond.fieldLink "LotBeliefs$Reader" (15 : Nat) "LotBeliefs$Reader" "size" "I") ∈ lw_all := lw_g (lw_at lw_m4 177 rfl) rfl
theorem q1022 : (Jvm.Cond.fieldLink "LotBeliefs$Reader" (19 : Nat) "LotBeliefs$Reader" "jar" "LLotBeliefs$Jar;") ∈ lw_all := lw_g (lw_at lw_m4 178 rfl) rfl
theorem q1023 : (Jvm.Cond.fieldLink "LotBeliefs$Reader" (23 : Nat) "LotBeliefs$Reader" "next" "I") ∈ lw_all := lw_g (lw_at lw_m4 179 rfl) rfl
theorem q1024 : (Jvm.Cond.fieldLink "LotBeliefs$Reader" (53 : Nat) "LotBeliefs$Reader" "from" "I") ∈ lw_all := lw_g (lw_at lw_m4 180 rfl) rfl
theorem q1025 : (Jvm.Cond.fieldLink "LotBeliefs$Reader" (146 : Nat) "LotBeliefs$Reader" "open" "I") ∈ lw_all := lw_g (lw_at lw_m4 181 rfl) rfl
theorem q1026 : (Jvm.Cond.laysFinal "LotBeliefs$Reader" "LotBeliefs$Reader" "text" "[B") ∈ lw_all := lw_g (lw_at lw_m4 182 rfl) rfl
theorem q1027 : (Jvm.Cond.soleField "LotBeliefs$Reader" "text") ∈ lw_all := lw_g (lw_at lw_m4 183 rfl) rfl
theorem q1028 : (Jvm.Cond.laysFinal "LotBeliefs$Reader" "LotBeliefs$Reader" "size" "I") ∈ lw_all := lw_g (lw_at lw_m4 184 rfl) rfl
theorem q1029 : (Jvm.Cond.soleField "LotBeliefs$Reader" "size") ∈ lw_all := lw_g (lw_at lw_m4 185 rfl) rfl
theorem q1030 : (Jvm.Cond.laysFinal "LotBeliefs$Reader" "LotBeliefs$Reader" "jar" "LLotBeliefs$Jar;") ∈ lw_all := lw_g (lw_at lw_m4 186 rfl) rfl
theorem q1031 : (Jvm.Cond.soleField "LotBeliefs$Reader" "jar") ∈ lw_all := lw_g (lw_at lw_m4 187 rfl) rfl
theorem q1032 : (Jvm.Cond.lays "LotBeliefs$Reader" "LotBeliefs$Reader" "next" "I") ∈ lw_all := lw_g (lw_at lw_m4 188 rfl) rfl
theorem q1033 : (Jvm.Cond.soleField "LotBeliefs$Reader" "next") ∈ lw_all := lw_g (lw_at lw_m4 189 rfl) rfl
theorem q1034 : (Jvm.Cond.lays "LotBeliefs$Reader" "LotBeliefs$Reader" "from" "I") ∈ lw_all := lw_g (lw_at lw_m4 190 rfl) rfl
theorem q1035 : (Jvm.Cond.soleField "LotBeliefs$Reader" "from") ∈ lw_all := lw_g (lw_at lw_m4 191 rfl) rfl
theorem q1036 : (Jvm.Cond.lays "LotBeliefs$Reader" "LotBeliefs$Reader" "open" "I") ∈ lw_all := lw_g (lw_at lw_m4 192 rfl) rfl
theorem q1037 : (Jvm.Cond.soleField "LotBeliefs$Reader" "open") ∈ lw_all := lw_g (lw_at lw_m4 193 rfl) rfl
theorem q1038 : (Jvm.Cond.superclass "LotBeliefs$Reader" "java/lang/Object") ∈ lw_all := lw_g (lw_at lw_m4 194 rfl) rfl
theorem q1040 : (Jvm.Cond.instanceMethod ({ cls := "LotBeliefs$Reader", name := "reads", desc := "()LLotBeliefs$Jar;" } : Jvm.MethodName)) ∈ lw_all := lw_g (lw_at lw_m4 196 rfl) rfl
theorem q1041 : (Jvm.Cond.selects "LotBeliefs$Reader" ({ cls := "LotBeliefs$Reader", name := "reads", desc := "()LLotBeliefs$Jar;" } : Jvm.MethodName) ({ cls := "LotBeliefs$Reader", name := "reads", desc := "()LLotBeliefs$Jar;" } : Jvm.MethodName)) ∈ lw_all := lw_g (lw_at lw_m4 197 rfl) rfl
theorem q1042 : (Jvm.Cond.code ({ cls := "LotBeliefs$Reader", name := "reads", desc := "()LLotBeliefs$Jar;" } : Jvm.MethodName) prog_8_method_7_code (1 : Nat) (Option.some (Jvm.ClassFile.FieldType.object "LotBeliefs$Jar"))) ∈ lw_all := lw_g (lw_at lw_m4 198 rfl) rfl
theorem q1043 : (Jvm.Cond.methodLink "LotBeliefs$Reader" (26 : Nat) ({ cls := "LotBeliefs$Reader", name := "sign", desc := "()I" } : Jvm.MethodName)) ∈ lw_all := lw_g (lw_at lw_m4 199 rfl) rfl
theorem q1044 : (Jvm.Cond.privateMethod ({ cls := "LotBeliefs$Reader", name := "sign", desc := "()I" } : Jvm.MethodName)) ∈ lw_tbl := lw_at lw_m4 200 rfl
theorem q1045 : (Jvm.Cond.instanceMethod ({ cls := "LotBeliefs$Reader", name := "sign", desc := "()I" } : Jvm.MethodName)) ∈ lw_all := lw_g (lw_at lw_m4 201 rfl) rfl
theorem q1046 : (Jvm.Cond.code ({ cls := "LotBeliefs$Reader", name := "sign", desc := "()I" } : Jvm.MethodName) prog_8_method_2_code (1 : Nat) (Option.some Jvm.ClassFile.FieldType.int)) ∈ lw_all := lw_g (lw_at lw_m4 202 rfl) rfl
theorem q1047 : (Jvm.Cond.methodLink "LotBeliefs$Reader" (62 : Nat) ({ cls := "LotBeliefs$Reader", name := "word", desc := "()Ljava/lang/String;" } : Jvm.MethodName)) ∈ lw_all := lw_g (lw_at lw_m4 203 rfl) rfl
theorem q1048 : (Jvm.Cond.privateMethod ({ cls := "LotBeliefs$Reader", name := "word", desc := "()Ljava/lang/String;" } : Jvm.MethodName)) ∈ lw_tbl := lw_at lw_m4 204 rfl
theorem q1049 : (Jvm.Cond.instanceMethod ({ cls := "LotBeliefs$Reader", name := "word", desc := "()Ljava/lang/String;" } : Jvm.MethodName)) ∈ lw_all := lw_g (lw_at lw_m4 205 rfl) rfl
theorem q1050 : (Jvm.Cond.code ({ cls := "LotBeliefs$Reader", name := "word", desc := "()Ljava/lang/String;" } : Jvm.MethodName) prog_8_method_3_code (3 : Nat) (Option.some (Jvm.ClassFile.FieldType.object "java/lang/String"))) ∈ lw_all := lw_g (lw_at lw_m4 206 rfl) rfl
theorem q1051 : (Jvm.Cond.classLink "LotBeliefs$Reader" (30 : Nat) "java/lang/StringBuilder") ∈ lw_all := lw_g (lw_at lw_m4 207 rfl) rfl
theorem q1052 : (Jvm.Cond.methodLink "LotBeliefs$Reader" (32 : Nat) ({ cls := "java/lang/StringBuilder", name := "<init>", desc := "()V" } : Jvm.MethodName)) ∈ lw_all := lw_g (lw_at lw_m4 208 rfl) rfl
theorem q1053 : (Jvm.Cond.methodLink "LotBeliefs$Reader" (33 : Nat) ({ cls := "java/lang/StringBuilder", name := "length", desc := "()I" } : Jvm.MethodName)) ∈ lw_all := lw_g (lw_at lw_m4 209 rfl) rfl
theorem q1054 : (Jvm.Cond.methodLink "LotBeliefs$Reader" (36 : Nat) ({ cls := "java/lang/StringBuilder", name := "append", desc := "(C)Ljava/lang/StringBuilder;" } : Jvm.MethodName)) ∈ lw_all := lw_g (lw_at lw_m4 210 rfl) rfl
theorem q1074 : (Jvm.Cond.methodLink "LotBeliefs$Reader" (40 : Nat) ({ cls := "java/lang/StringBuilder", name := "toString", desc := "()Ljava/lang/String;" } : Jvm.MethodName)) ∈ lw_all := lw_g (lw_at lw_m4 230 rfl) rfl
theorem q1075 : (Jvm.Cond.methodLink "LotBeliefs$Reader" (65 : Nat) ({ cls := "LotBeliefs$Reader", name := "clause", desc := "(Ljava/lang/String;)V" } : Jvm.MethodName)) ∈ lw_all := lw_g (lw_at lw_m4 231 rfl) rfl
theorem q1076 : (Jvm.Cond.privateMethod ({ cls := "LotBeliefs$Reader", name := "clause", desc := "(Ljava/lang/String;)V" } : Jvm.MethodName)) ∈ lw_tbl := lw_at lw_m4 232 rfl
theorem q1077 : (Jvm.Cond.instanceMethod ({ cls := "LotBeliefs$Reader", name := "clause", desc := "(Ljava/lang/String;)V" } : Jvm.MethodName)) ∈ lw_all := lw_g (lw_at lw_m4 233 rfl) rfl
theorem q1078 : (Jvm.Cond.code ({ cls := "LotBeliefs$Reader", name := "clause", desc := "(Ljava/lang/String;)V" } : Jvm.MethodName) prog_8_method_9_code (5 : Nat) (Option.none : Option Jvm.ClassFile.FieldType)) ∈ lw_all := lw_g (lw_at lw_m4 234 rfl) rfl
theorem q1079 : (Jvm.Cond.methodLink "LotBeliefs$Reader" (78 : Nat) ({ cls := "java/lang/String", name := "hashCode", desc := "()I" } : Jvm.MethodName)) ∈ lw_all := lw_g (lw_at lw_m4 235 rfl) rfl
theorem q1140 : (Jvm.Cond.stringRef "LotBeliefs$Reader" (107 : Nat) "atoms") ∈ lw_tbl := lw_at lw_m5 56 rfl
theorem q1141 : (Jvm.Cond.methodLink "LotBeliefs$Reader" (85 : Nat) ({ cls := "java/lang/String", name := "equals", desc := "(Ljava/lang/Object;)Z" } : Jvm.MethodName)) ∈ lw_all := lw_g (lw_at lw_m5 57 rfl) rfl
theorem q1149 : (Jvm.Cond.stringRef "LotBeliefs$Reader" (83 : Nat) "slip") ∈ lw_tbl := lw_at lw_m5 65 rfl
theorem q1150 : (Jvm.Cond.stringRef "LotBeliefs$Reader" (89 : Nat) "see") ∈ lw_tbl := lw_at lw_m5 66 rfl
theorem q1151 : (Jvm.Cond.stringRef "LotBeliefs$Reader" (91 : Nat) "salt") ∈ lw_tbl := lw_at lw_m5 67 rfl
theorem q1152 : (Jvm.Cond.stringRef "LotBeliefs$Reader" (109 : Nat) "world") ∈ lw_tbl := lw_at lw_m5 68 rfl
theorem q1153 : (Jvm.Cond.stringRef "LotBeliefs$Reader" (111 : Nat) "law") ∈ lw_tbl := lw_at lw_m5 69 rfl
theorem q1154 : (Jvm.Cond.methodLink "LotBeliefs$Reader" (49 : Nat) ({ cls := "LotBeliefs$Reader", name := "wrong", desc := "()LLotBeliefs$Wrong;" } : Jvm.MethodName)) ∈ lw_all := lw_g (lw_at lw_m5 70 rfl) rfl
theorem q1155 : (Jvm.Cond.privateMethod ({ cls := "LotBeliefs$Reader", name := "wrong", desc := "()LLotBeliefs$Wrong;" } : Jvm.MethodName)) ∈ lw_tbl := lw_at lw_m5 71 rfl
theorem q1156 : (Jvm.Cond.instanceMethod ({ cls := "LotBeliefs$Reader", name := "wrong", desc := "()LLotBeliefs$Wrong;" } : Jvm.MethodName)) ∈ lw_all := lw_g (lw_at lw_m5 72 rfl) rfl
theorem q1157 : (Jvm.Cond.code ({ cls := "LotBeliefs$Reader", name := "wrong", desc := "()LLotBeliefs$Wrong;" } : Jvm.MethodName) prog_8_method_4_code (1 : Nat) (Option.some (Jvm.ClassFile.FieldType.object "LotBeliefs$Wrong"))) ∈ lw_all := lw_g (lw_at lw_m5 73 rfl) rfl
theorem q1158 : (Jvm.Cond.classLink "LotBeliefs$Reader" (44 : Nat) "LotBeliefs$Wrong") ∈ lw_all := lw_g (lw_at lw_m5 74 rfl) rfl
theorem q1167 : (Jvm.Cond.methodLink "LotBeliefs$Reader" (46 : Nat) ({ cls := "LotBeliefs$Wrong", name := "<init>", desc := "(II)V" } : Jvm.MethodName)) ∈ lw_all := lw_g (lw_at lw_m5 83 rfl) rfl
theorem q1186 : (Jvm.Cond.methodLink "LotBeliefs$Reader" (113 : Nat) ({ cls := "LotBeliefs$Reader", name := "isFull", desc := "(Ljava/lang/String;)Z" } : Jvm.MethodName)) ∈ lw_all := lw_g (lw_at lw_m5 102 rfl) rfl
theorem q1187 : (Jvm.Cond.privateMethod ({ cls := "LotBeliefs$Reader", name := "isFull", desc := "(Ljava/lang/String;)Z" } : Jvm.MethodName)) ∈ lw_tbl := lw_at lw_m5 103 rfl
theorem q1188 : (Jvm.Cond.instanceMethod ({ cls := "LotBeliefs$Reader", name := "isFull", desc := "(Ljava/lang/String;)Z" } : Jvm.MethodName)) ∈ lw_all := lw_g (lw_at lw_m5 104 rfl) rfl
theorem q1189 : (Jvm.Cond.code ({ cls := "LotBeliefs$Reader", name := "isFull", desc := "(Ljava/lang/String;)Z" } : Jvm.MethodName) prog_8_method_8_code (4 : Nat) (Option.some Jvm.ClassFile.FieldType.boolean)) ∈ lw_all := lw_g (lw_at lw_m5 105 rfl) rfl
theorem q1190 : (Jvm.Cond.methodLink "LotBeliefs$Reader" (100 : Nat) ({ cls := "java/util/ArrayList", name := "size", desc := "()I" } : Jvm.MethodName)) ∈ lw_all := lw_g (lw_at lw_m5 106 rfl) rfl
theorem q1191 : (Jvm.Cond.methodLink "LotBeliefs$Reader" (117 : Nat) ({ cls := "java/lang/String", name := "length", desc := "()I" } : Jvm.MethodName)) ∈ lw_all := lw_g (lw_at lw_m5 107 rfl) rfl
theorem q1192 : (Jvm.Cond.methodLink "LotBeliefs$Reader" (118 : Nat) ({ cls := "LotBeliefs$Reader", name := "number", desc := "(II)I" } : Jvm.MethodName)) ∈ lw_all := lw_g (lw_at lw_m5 108 rfl) rfl
theorem q1193 : (Jvm.Cond.privateMethod ({ cls := "LotBeliefs$Reader", name := "number", desc := "(II)I" } : Jvm.MethodName)) ∈ lw_tbl := lw_at lw_m5 109 rfl
theorem q1194 : (Jvm.Cond.instanceMethod ({ cls := "LotBeliefs$Reader", name := "number", desc := "(II)I" } : Jvm.MethodName)) ∈ lw_all := lw_g (lw_at lw_m5 110 rfl) rfl
theorem q1195 : (Jvm.Cond.code ({ cls := "LotBeliefs$Reader", name := "number", desc := "(II)I" } : Jvm.MethodName) prog_8_method_6_code (5 : Nat) (Option.some Jvm.ClassFile.FieldType.int)) ∈ lw_all := lw_g (lw_at lw_m5 111 rfl) rfl
theorem q1196 : (Jvm.Cond.methodLink "LotBeliefs$Reader" (56 : Nat) ({ cls := "java/lang/Math", name := "min", desc := "(II)I" } : Jvm.MethodName)) ∈ lw_all := lw_g (lw_at lw_m5 112 rfl) rfl
theorem q1197 : (Jvm.Cond.methodLink "LotBeliefs$Reader" (127 : Nat) ({ cls := "LotBeliefs$Reader", name := "any", desc := "()J" } : Jvm.MethodName)) ∈ lw_all := lw_g (lw_at lw_m5 113 rfl) rfl
theorem q1198 : (Jvm.Cond.privateMethod ({ cls := "LotBeliefs$Reader", name := "any", desc := "()J" } : Jvm.MethodName)) ∈ lw_tbl := lw_at lw_m5 114 rfl
theorem q1199 : (Jvm.Cond.instanceMethod ({ cls := "LotBeliefs$Reader", name := "any", desc := "()J" } : Jvm.MethodName)) ∈ lw_all := lw_g (lw_at lw_m5 115 rfl) rfl
theorem q1200 : (Jvm.Cond.code ({ cls := "LotBeliefs$Reader", name := "any", desc := "()J" } : Jvm.MethodName) prog_8_method_13_code (3 : Nat) (Option.some Jvm.ClassFile.FieldType.long)) ∈ lw_all := lw_g (lw_at lw_m5 116 rfl) rfl
theorem q1201 : (Jvm.Cond.methodLink "LotBeliefs$Reader" (149 : Nat) ({ cls := "LotBeliefs$Reader", name := "every", desc := "()J" } : Jvm.MethodName)) ∈ lw_all := lw_g (lw_at lw_m5 117 rfl) rfl
theorem q1202 : (Jvm.Cond.privateMethod ({ cls := "LotBeliefs$Reader", name := "every", desc := "()J" } : Jvm.MethodName)) ∈ lw_tbl := lw_at lw_m5 118 rfl
theorem q1203 : (Jvm.Cond.instanceMethod ({ cls := "LotBeliefs$Reader", name := "every", desc := "()J" } : Jvm.MethodName)) ∈ lw_all := lw_g (lw_at lw_m5 119 rfl) rfl
theorem q1204 : (Jvm.Cond.code ({ cls := "LotBeliefs$Reader", name := "every", desc := "()J" } : Jvm.MethodName) prog_8_method_14_code (3 : Nat) (Option.some Jvm.ClassFile.FieldType.long)) ∈ lw_all := lw_g (lw_at lw_m5 120 rfl) rfl
theorem q1205 : (Jvm.Cond.methodLink "LotBeliefs$Reader" (157 : Nat) ({ cls := "LotBeliefs$Reader", name := "one", desc := "()J" } : Jvm.MethodName)) ∈ lw_all := lw_g (lw_at lw_m5 121 rfl) rfl
theorem q1206 : (Jvm.Cond.privateMethod ({ cls := "LotBeliefs$Reader", name := "one", desc := "()J" } : Jvm.MethodName)) ∈ lw_tbl := lw_at lw_m5 122 rfl
theorem q1207 : (Jvm.Cond.instanceMethod ({ cls := "LotBeliefs$Reader", name := "one", desc := "()J" } : Jvm.MethodName)) ∈ lw_all := lw_g (lw_at lw_m5 123 rfl) rfl
theorem q1208 : (Jvm.Cond.code ({ cls := "LotBeliefs$Reader", name := "one", desc := "()J" } : Jvm.MethodName) prog_8_method_15_code (6 : Nat) (Option.some Jvm.ClassFile.FieldType.long)) ∈ lw_all := lw_g (lw_at lw_m5 124 rfl) rfl
theorem q1209 : (Jvm.Cond.methodLink "LotBeliefs$Reader" (162 : Nat) ({ cls := "LotBeliefs$Reader", name := "opens", desc := "(I)V" } : Jvm.MethodName)) ∈ lw_all := lw_g (lw_at lw_m5 125 rfl) rfl
theorem q1210 : (Jvm.Cond.privateMethod ({ cls := "LotBeliefs$Reader", name := "opens", desc := "(I)V" } : Jvm.MethodName)) ∈ lw_tbl := lw_at lw_m5 126 rfl
theorem q1211 : (Jvm.Cond.instanceMethod ({ cls := "LotBeliefs$Reader", name := "opens", desc := "(I)V" } : Jvm.MethodName)) ∈ lw_all := lw_g (lw_at lw_m5 127 rfl) rfl
theorem q1212 : (Jvm.Cond.code ({ cls := "LotBeliefs$Reader", name := "opens", desc := "(I)V" } : Jvm.MethodName) prog_8_method_12_code (2 : Nat) (Option.none : Option Jvm.ClassFile.FieldType)) ∈ lw_all := lw_g (lw_at lw_m5 128 rfl) rfl
theorem q1213 : (Jvm.Cond.methodLink "LotBeliefs$Reader" (69 : Nat) ({ cls := "LotBeliefs$Reader", name := "need", desc := "(I)V" } : Jvm.MethodName)) ∈ lw_all := lw_g (lw_at lw_m5 129 rfl) rfl
theorem q1214 : (Jvm.Cond.privateMethod ({ cls := "LotBeliefs$Reader", name := "need", desc := "(I)V" } : Jvm.MethodName)) ∈ lw_tbl := lw_at lw_m5 130 rfl
theorem q1215 : (Jvm.Cond.instanceMethod ({ cls := "LotBeliefs$Reader", name := "need", desc := "(I)V" } : Jvm.MethodName)) ∈ lw_all := lw_g (lw_at lw_m5 131 rfl) rfl
theorem q1216 : (Jvm.Cond.code ({ cls := "LotBeliefs$Reader", name := "need", desc := "(I)V" } : Jvm.MethodName) prog_8_method_5_code (2 : Nat) (Option.none : Option Jvm.ClassFile.FieldType)) ∈ lw_all := lw_g (lw_at lw_m5 132 rfl) rfl
theorem q1217 : (Jvm.Cond.stringRef "LotBeliefs$Reader" (165 : Nat) "not") ∈ lw_tbl := lw_at lw_m5 133 rfl
theorem q1218 : (Jvm.Cond.methodLink "LotBeliefs$Reader" (167 : Nat) ({ cls := "LotBeliefs$Jar", name := "all", desc := "()J" } : Jvm.MethodName)) ∈ lw_all := lw_g (lw_at lw_m5 134 rfl) rfl
theorem q1219 : (Jvm.Cond.constantLong "LotBeliefs$Reader" (170 : Nat) (-1 : Int64)) ∈ lw_all := lw_g (lw_at lw_m5 135 rfl) rfl
theorem q1220 : (Jvm.Cond.stringRef "LotBeliefs$Reader" (172 : Nat) "if") ∈ lw_tbl := lw_at lw_m5 136 rfl
theorem q1221 : (Jvm.Cond.stringRef "LotBeliefs$Reader" (174 : Nat) "then") ∈ lw_tbl := lw_at lw_m5 137 rfl
theorem q1222 : (Jvm.Cond.methodLink "LotBeliefs$Reader" (154 : Nat) ({ cls := "LotBeliefs$Reader", name := "takes", desc := "(Ljava/lang/String;)Z" } : Jvm.MethodName)) ∈ lw_all := lw_g (lw_at lw_m5 138 rfl) rfl
theorem q1223 : (Jvm.Cond.privateMethod ({ cls := "LotBeliefs$Reader", name := "takes", desc := "(Ljava/lang/String;)Z" } : Jvm.MethodName)) ∈ lw_tbl := lw_at lw_m5 139 rfl
theorem q1224 : (Jvm.Cond.instanceMethod ({ cls := "LotBeliefs$Reader", name := "takes", desc := "(Ljava/lang/String;)Z" } : Jvm.MethodName)) ∈ lw_all := lw_g (lw_at lw_m5 140 rfl) rfl
theorem q1225 : (Jvm.Cond.code ({ cls := "LotBeliefs$Reader", name := "takes", desc := "(Ljava/lang/String;)Z" } : Jvm.MethodName) prog_8_method_11_code (2 : Nat) (Option.some Jvm.ClassFile.FieldType.boolean)) ∈ lw_all := lw_g (lw_at lw_m5 141 rfl) rfl
theorem q1226 : (Jvm.Cond.methodLink "LotBeliefs$Reader" (176 : Nat) ({ cls := "java/lang/String", name := "charAt", desc := "(I)C" } : Jvm.MethodName)) ∈ lw_all := lw_g (lw_at lw_m5 142 rfl) rfl
theorem q1237 : (Jvm.Cond.methodLink "LotBeliefs$Reader" (180 : Nat) ({ cls := "LotBeliefs$Jar", name := "models", desc := "(I)J" } : Jvm.MethodName)) ∈ lw_all := lw_g (lw_at lw_m5 153 rfl) rfl
theorem q1241 : (Jvm.Cond.stringRef "LotBeliefs$Reader" (160 : Nat) "and") ∈ lw_tbl := lw_at lw_m5 157 rfl
theorem q1242 : (Jvm.Cond.stringRef "LotBeliefs$Reader" (152 : Nat) "or") ∈ lw_tbl := lw_at lw_m5 158 rfl
theorem q1243 : (Jvm.Cond.classLink "LotBeliefs$Reader" (131 : Nat) "LotBeliefs$Seeing") ∈ lw_all := lw_g (lw_at lw_m5 159 rfl) rfl
theorem q1245 : (Jvm.Cond.methodLink "LotBeliefs$Reader" (133 : Nat) ({ cls := "LotBeliefs$Seeing", name := "<init>", desc := "(IJ)V" } : Jvm.MethodName)) ∈ lw_all := lw_g (lw_at lw_m5 161 rfl) rfl
theorem q1260 : (Jvm.Cond.methodLink "LotBeliefs$Reader" (136 : Nat) ({ cls := "java/util/ArrayList", name := "add", desc := "(Ljava/lang/Object;)Z" } : Jvm.MethodName)) ∈ lw_all := lw_g (lw_at lw_m5 176 rfl) rfl
theorem q1291 : (Jvm.Cond.selects "LotBeliefs$Reader" ({ cls := "java/lang/Object", name := "getClass", desc := "()Ljava/lang/Class;" } : Jvm.MethodName) ({ cls := "java/lang/Object", name := "getClass", desc := "()Ljava/lang/Class;" } : Jvm.MethodName)) ∈ lw_all := lw_g (lw_at lw_m5 207 rfl) rfl
theorem q1317 : (Jvm.Cond.methodLink "LotBeliefs$Reader" (139 : Nat) ({ cls := "LotBeliefs$Jar", name := "worlds", desc := "()I" } : Jvm.MethodName)) ∈ lw_all := lw_g (lw_at lw_m5 233 rfl) rfl
theorem q1326 : (Jvm.Cond.instanceMethod ({ cls := "LotBeliefs$Reader", name := "question", desc := "()J" } : Jvm.MethodName)) ∈ lw_all := lw_g (lw_at lw_m6 2 rfl) rfl
theorem q1327 : (Jvm.Cond.selects "LotBeliefs$Reader" ({ cls := "LotBeliefs$Reader", name := "question", desc := "()J" } : Jvm.MethodName) ({ cls := "LotBeliefs$Reader", name := "question", desc := "()J" } : Jvm.MethodName)) ∈ lw_all := lw_g (lw_at lw_m6 3 rfl) rfl
theorem q1328 : (Jvm.Cond.code ({ cls := "LotBeliefs$Reader", name := "question", desc := "()J" } : Jvm.MethodName) prog_8_method_10_code (3 : Nat) (Option.some Jvm.ClassFile.FieldType.long)) ∈ lw_all := lw_g (lw_at lw_m6 4 rfl) rfl
theorem q2718 : (Jvm.Cond.castable "LotBeliefs$Reader" "java/lang/Object") ∈ lw_tbl := lw_at lw_m11 194 rfl

abbrev cX8_init : ByteArray := prog_17_method_1_code
def yX8_init : MethodName := ⟨RX8, "<init>", "(II)V"⟩
def dkwX8_init_0 : List UInt8 := [42, 1, 1, 3, 3, 183, 0, 1, 42, 27, 181, 0, 7, 42, 28, 181, 0, 13, 177]
abbrev dktX8_init_0 : List UInt8 := dkwX8_init_0 ++ []
theorem dksX8_init_0 : cX8_init.data.toList.drop 0 = dktX8_init_0 := by decide +kernel
theorem dX8_init_0 : decode cX8_init 0 = .ok (.aload_n 0, 1) := dk_42 (dk_at dksX8_init_0 0 rfl rfl)
theorem dX8_init_1 : decode cX8_init 1 = .ok (.aconst_null, 1) := dk_1 (dk_at dksX8_init_0 1 rfl rfl)
theorem dX8_init_2 : decode cX8_init 2 = .ok (.aconst_null, 1) := dk_1 (dk_at dksX8_init_0 2 rfl rfl)
theorem dX8_init_3 : decode cX8_init 3 = .ok (.iconst 0, 1) := dk_3 (dk_at dksX8_init_0 3 rfl rfl)
theorem dX8_init_4 : decode cX8_init 4 = .ok (.iconst 0, 1) := dk_3 (dk_at dksX8_init_0 4 rfl rfl)
theorem dX8_init_5 : decode cX8_init 5 = .ok (.invokespecial 1, 3) := dk_183 0 1 (dk_at dksX8_init_0 5 rfl rfl)
theorem dX8_init_8 : decode cX8_init 8 = .ok (.aload_n 0, 1) := dk_42 (dk_at dksX8_init_0 8 rfl rfl)
theorem dX8_init_9 : decode cX8_init 9 = .ok (.iload_n 1, 1) := dk_27 (dk_at dksX8_init_0 9 rfl rfl)
theorem dX8_init_10 : decode cX8_init 10 = .ok (.putfield 7, 3) := dk_181 0 7 (dk_at dksX8_init_0 10 rfl rfl)
theorem dX8_init_13 : decode cX8_init 13 = .ok (.aload_n 0, 1) := dk_42 (dk_at dksX8_init_0 13 rfl rfl)
theorem dX8_init_14 : decode cX8_init 14 = .ok (.iload_n 2, 1) := dk_28 (dk_at dksX8_init_0 14 rfl rfl)
theorem dX8_init_15 : decode cX8_init 15 = .ok (.putfield 13, 3) := dk_181 0 13 (dk_at dksX8_init_0 15 rfl rfl)
theorem dX8_init_18 : decode cX8_init 18 = .ok (.return_, 1) := dk_177 (dk_at dksX8_init_0 18 rfl rfl)
theorem q152 : (Jvm.Cond.initialized "LotBeliefs$Wrong") ∈ lw_all := lw_g (lw_at lw_m1 28 rfl) rfl
theorem q231 : (Jvm.Cond.selects "LotBeliefs$Wrong" ({ cls := "java/lang/Throwable", name := "fillInStackTrace", desc := "()Ljava/lang/Throwable;" } : Jvm.MethodName) ({ cls := "java/lang/Throwable", name := "fillInStackTrace", desc := "()Ljava/lang/Throwable;" } : Jvm.MethodName)) ∈ lw_all := lw_g (lw_at lw_m1 107 rfl) rfl
theorem q1159 : (Jvm.Cond.instantiable "LotBeliefs$Wrong" (8 : Nat)) ∈ lw_all := lw_g (lw_at lw_m5 75 rfl) rfl
theorem q1160 : (Jvm.Cond.castable "LotBeliefs$Wrong" "LotBeliefs$Wrong") ∈ lw_tbl := lw_at lw_m5 76 rfl
theorem q1161 : (Jvm.Cond.selects "LotBeliefs$Wrong" ({ cls := "java/lang/Throwable", name := "fillInStackTrace", desc := "(I)Ljava/lang/Throwable;" } : Jvm.MethodName) ({ cls := "java/lang/Throwable", name := "fillInStackTrace", desc := "(I)Ljava/lang/Throwable;" } : Jvm.MethodName)) ∈ lw_all := lw_g (lw_at lw_m5 77 rfl) rfl
theorem q1162 : (Jvm.Cond.lays "LotBeliefs$Wrong" "java/lang/Throwable" "cause" "Ljava/lang/Throwable;") ∈ lw_all := lw_g (lw_at lw_m5 78 rfl) rfl
theorem q1163 : (Jvm.Cond.lays "LotBeliefs$Wrong" "java/lang/Throwable" "stackTrace" "[Ljava/lang/StackTraceElement;") ∈ lw_all := lw_g (lw_at lw_m5 79 rfl) rfl
theorem q1164 : (Jvm.Cond.lays "LotBeliefs$Wrong" "java/lang/Throwable" "suppressedExceptions" "Ljava/util/List;") ∈ lw_all := lw_g (lw_at lw_m5 80 rfl) rfl
theorem q1165 : (Jvm.Cond.lays "LotBeliefs$Wrong" "java/lang/Throwable" "detailMessage" "Ljava/lang/String;") ∈ lw_all := lw_g (lw_at lw_m5 81 rfl) rfl
theorem q1166 : (Jvm.Cond.lays "LotBeliefs$Wrong" "java/lang/Throwable" "backtrace" "Ljava/lang/Object;") ∈ lw_all := lw_g (lw_at lw_m5 82 rfl) rfl
theorem q1168 : (Jvm.Cond.instanceMethod ({ cls := "LotBeliefs$Wrong", name := "<init>", desc := "(II)V" } : Jvm.MethodName)) ∈ lw_all := lw_g (lw_at lw_m5 84 rfl) rfl
theorem q1169 : (Jvm.Cond.code ({ cls := "LotBeliefs$Wrong", name := "<init>", desc := "(II)V" } : Jvm.MethodName) prog_17_method_1_code (3 : Nat) (Option.none : Option Jvm.ClassFile.FieldType)) ∈ lw_all := lw_g (lw_at lw_m5 85 rfl) rfl
theorem q1170 : (Jvm.Cond.methodLink "LotBeliefs$Wrong" (1 : Nat) ({ cls := "java/lang/Exception", name := "<init>", desc := "(Ljava/lang/String;Ljava/lang/Throwable;ZZ)V" } : Jvm.MethodName)) ∈ lw_all := lw_g (lw_at lw_m5 86 rfl) rfl
theorem q1176 : (Jvm.Cond.fieldLink "LotBeliefs$Wrong" (7 : Nat) "LotBeliefs$Wrong" "kind" "I") ∈ lw_all := lw_g (lw_at lw_m5 92 rfl) rfl
theorem q1178 : (Jvm.Cond.fieldLink "LotBeliefs$Wrong" (13 : Nat) "LotBeliefs$Wrong" "place" "I") ∈ lw_all := lw_g (lw_at lw_m5 94 rfl) rfl
theorem q1180 : (Jvm.Cond.laysFinal "LotBeliefs$Wrong" "LotBeliefs$Wrong" "kind" "I") ∈ lw_all := lw_g (lw_at lw_m5 96 rfl) rfl
theorem q1181 : (Jvm.Cond.soleField "LotBeliefs$Wrong" "kind") ∈ lw_all := lw_g (lw_at lw_m5 97 rfl) rfl
theorem q1182 : (Jvm.Cond.laysFinal "LotBeliefs$Wrong" "LotBeliefs$Wrong" "place" "I") ∈ lw_all := lw_g (lw_at lw_m5 98 rfl) rfl
theorem q1183 : (Jvm.Cond.soleField "LotBeliefs$Wrong" "place") ∈ lw_all := lw_g (lw_at lw_m5 99 rfl) rfl
theorem q1184 : (Jvm.Cond.lays "LotBeliefs$Wrong" "java/lang/Throwable" "depth" "I") ∈ lw_all := lw_g (lw_at lw_m5 100 rfl) rfl
theorem q1185 : (Jvm.Cond.superclass "LotBeliefs$Wrong" "java/lang/Exception") ∈ lw_all := lw_g (lw_at lw_m5 101 rfl) rfl
theorem q1299 : (Jvm.Cond.selects "LotBeliefs$Wrong" ({ cls := "java/lang/Object", name := "getClass", desc := "()Ljava/lang/Class;" } : Jvm.MethodName) ({ cls := "java/lang/Object", name := "getClass", desc := "()Ljava/lang/Class;" } : Jvm.MethodName)) ∈ lw_all := lw_g (lw_at lw_m5 215 rfl) rfl
theorem q2720 : (Jvm.Cond.castable "LotBeliefs$Wrong" "java/lang/Object") ∈ lw_tbl := lw_at lw_m11 196 rfl

abbrev cX9_init : ByteArray := prog_11_method_1_code
def yX9_init : MethodName := ⟨RX9, "<init>", "(IJ)V"⟩
def dkwX9_init_0 : List UInt8 := [42, 183, 0, 1, 42, 27, 181, 0, 7, 42, 32, 181, 0, 13, 177]
abbrev dktX9_init_0 : List UInt8 := dkwX9_init_0 ++ []
theorem dksX9_init_0 : cX9_init.data.toList.drop 0 = dktX9_init_0 := by decide +kernel
theorem dX9_init_0 : decode cX9_init 0 = .ok (.aload_n 0, 1) := dk_42 (dk_at dksX9_init_0 0 rfl rfl)
theorem dX9_init_1 : decode cX9_init 1 = .ok (.invokespecial 1, 3) := dk_183 0 1 (dk_at dksX9_init_0 1 rfl rfl)
theorem dX9_init_4 : decode cX9_init 4 = .ok (.aload_n 0, 1) := dk_42 (dk_at dksX9_init_0 4 rfl rfl)
theorem dX9_init_5 : decode cX9_init 5 = .ok (.iload_n 1, 1) := dk_27 (dk_at dksX9_init_0 5 rfl rfl)
theorem dX9_init_6 : decode cX9_init 6 = .ok (.putfield 7, 3) := dk_181 0 7 (dk_at dksX9_init_0 6 rfl rfl)
theorem dX9_init_9 : decode cX9_init 9 = .ok (.aload_n 0, 1) := dk_42 (dk_at dksX9_init_0 9 rfl rfl)
theorem dX9_init_10 : decode cX9_init 10 = .ok (.lload_n 2, 1) := dk_32 (dk_at dksX9_init_0 10 rfl rfl)
theorem dX9_init_11 : decode cX9_init 11 = .ok (.putfield 13, 3) := dk_181 0 13 (dk_at dksX9_init_0 11 rfl rfl)
theorem dX9_init_14 : decode cX9_init 14 = .ok (.return_, 1) := dk_177 (dk_at dksX9_init_0 14 rfl rfl)
theorem q153 : (Jvm.Cond.initialized "LotBeliefs$Seeing") ∈ lw_all := lw_g (lw_at lw_m1 29 rfl) rfl
theorem q1244 : (Jvm.Cond.instantiable "LotBeliefs$Seeing" (2 : Nat)) ∈ lw_all := lw_g (lw_at lw_m5 160 rfl) rfl
theorem q1246 : (Jvm.Cond.instanceMethod ({ cls := "LotBeliefs$Seeing", name := "<init>", desc := "(IJ)V" } : Jvm.MethodName)) ∈ lw_all := lw_g (lw_at lw_m5 162 rfl) rfl
theorem q1247 : (Jvm.Cond.code ({ cls := "LotBeliefs$Seeing", name := "<init>", desc := "(IJ)V" } : Jvm.MethodName) prog_11_method_1_code (4 : Nat) (Option.none : Option Jvm.ClassFile.FieldType)) ∈ lw_all := lw_g (lw_at lw_m5 163 rfl) rfl
theorem q1248 : (Jvm.Cond.methodLink "LotBeliefs$Seeing" (1 : Nat) ({ cls := "java/lang/Object", name := "<init>", desc := "()V" } : Jvm.MethodName)) ∈ lw_all := lw_g (lw_at lw_m5 164 rfl) rfl
theorem q1249 : (Jvm.Cond.fieldLink "LotBeliefs$Seeing" (7 : Nat) "LotBeliefs$Seeing" "week" "I") ∈ lw_all := lw_g (lw_at lw_m5 165 rfl) rfl
theorem q1252 : (Jvm.Cond.fieldLink "LotBeliefs$Seeing" (13 : Nat) "LotBeliefs$Seeing" "models" "J") ∈ lw_all := lw_g (lw_at lw_m5 168 rfl) rfl
theorem q1255 : (Jvm.Cond.laysFinal "LotBeliefs$Seeing" "LotBeliefs$Seeing" "week" "I") ∈ lw_all := lw_g (lw_at lw_m5 171 rfl) rfl
theorem q1256 : (Jvm.Cond.soleField "LotBeliefs$Seeing" "week") ∈ lw_all := lw_g (lw_at lw_m5 172 rfl) rfl
theorem q1257 : (Jvm.Cond.laysFinal "LotBeliefs$Seeing" "LotBeliefs$Seeing" "models" "J") ∈ lw_all := lw_g (lw_at lw_m5 173 rfl) rfl
theorem q1258 : (Jvm.Cond.soleField "LotBeliefs$Seeing" "models") ∈ lw_all := lw_g (lw_at lw_m5 174 rfl) rfl
theorem q1259 : (Jvm.Cond.superclass "LotBeliefs$Seeing" "java/lang/Object") ∈ lw_all := lw_g (lw_at lw_m5 175 rfl) rfl
theorem q1294 : (Jvm.Cond.selects "LotBeliefs$Seeing" ({ cls := "java/lang/Object", name := "getClass", desc := "()Ljava/lang/Class;" } : Jvm.MethodName) ({ cls := "java/lang/Object", name := "getClass", desc := "()Ljava/lang/Class;" } : Jvm.MethodName)) ∈ lw_all := lw_g (lw_at lw_m5 210 rfl) rfl
theorem q2721 : (Jvm.Cond.castable "LotBeliefs$Seeing" "java/lang/Object") ∈ lw_tbl := lw_at lw_m11 197 rfl

abbrev cX10_init : ByteArray := prog_16_method_1_code
def yX10_init : MethodName := ⟨RX10, "<init>", "([BI)V"⟩
def dkwX10_init_1 : List UInt8 := [181, 0, 22, 177]
abbrev dktX10_init_1 : List UInt8 := dkwX10_init_1 ++ []
def dkwX10_init_0 : List UInt8 := [42, 183, 0, 3, 42, 187, 0, 9, 89, 183, 0, 11, 181, 0, 12, 42, 43, 181, 0, 18, 42, 28]
abbrev dktX10_init_0 : List UInt8 := dkwX10_init_0 ++ dktX10_init_1
theorem dksX10_init_0 : cX10_init.data.toList.drop 0 = dktX10_init_0 := by decide +kernel
theorem dksX10_init_1 : cX10_init.data.toList.drop 22 = dktX10_init_1 := dk_seg dksX10_init_0 22 rfl rfl
theorem dX10_init_0 : decode cX10_init 0 = .ok (.aload_n 0, 1) := dk_42 (dk_at dksX10_init_0 0 rfl rfl)
theorem dX10_init_1 : decode cX10_init 1 = .ok (.invokespecial 3, 3) := dk_183 0 3 (dk_at dksX10_init_0 1 rfl rfl)
theorem dX10_init_4 : decode cX10_init 4 = .ok (.aload_n 0, 1) := dk_42 (dk_at dksX10_init_0 4 rfl rfl)
theorem dX10_init_5 : decode cX10_init 5 = .ok (.new 9, 3) := dk_187 0 9 (dk_at dksX10_init_0 5 rfl rfl)
theorem dX10_init_8 : decode cX10_init 8 = .ok (.dup, 1) := dk_89 (dk_at dksX10_init_0 8 rfl rfl)
theorem dX10_init_9 : decode cX10_init 9 = .ok (.invokespecial 11, 3) := dk_183 0 11 (dk_at dksX10_init_0 9 rfl rfl)
theorem dX10_init_12 : decode cX10_init 12 = .ok (.putfield 12, 3) := dk_181 0 12 (dk_at dksX10_init_0 12 rfl rfl)
theorem dX10_init_15 : decode cX10_init 15 = .ok (.aload_n 0, 1) := dk_42 (dk_at dksX10_init_0 15 rfl rfl)
theorem dX10_init_16 : decode cX10_init 16 = .ok (.aload_n 1, 1) := dk_43 (dk_at dksX10_init_0 16 rfl rfl)
theorem dX10_init_17 : decode cX10_init 17 = .ok (.putfield 18, 3) := dk_181 0 18 (dk_at dksX10_init_0 17 rfl rfl)
theorem dX10_init_20 : decode cX10_init 20 = .ok (.aload_n 0, 1) := dk_42 (dk_at dksX10_init_0 20 rfl rfl)
theorem dX10_init_21 : decode cX10_init 21 = .ok (.iload_n 2, 1) := dk_28 (dk_at dksX10_init_0 21 rfl rfl)
theorem dX10_init_22 : decode cX10_init 22 = .ok (.putfield 22, 3) := dk_181 0 22 (dk_at dksX10_init_1 0 rfl rfl)
theorem dX10_init_25 : decode cX10_init 25 = .ok (.return_, 1) := dk_177 (dk_at dksX10_init_1 3 rfl rfl)
abbrev cX10_reads : ByteArray := prog_16_method_8_code
def yX10_reads : MethodName := ⟨RX10, "reads", "()LLotBeliefs$Tongue;"⟩
def dkwX10_reads_6 : List UInt8 := [182, 0, 94, 42, 182, 0, 29, 87, 167, 255, 110, 42, 180, 0, 12, 176]
abbrev dktX10_reads_6 : List UInt8 := dkwX10_reads_6 ++ []
def dkwX10_reads_5 : List UInt8 := [180, 0, 83, 29, 28, 79, 42, 180, 0, 12, 180, 0, 75, 42, 182, 0, 87, 182, 0, 91, 87, 42, 16, 59]
abbrev dktX10_reads_5 : List UInt8 := dkwX10_reads_5 ++ dktX10_reads_6
def dkwX10_reads_4 : List UInt8 := [180, 0, 26, 183, 0, 49, 191, 42, 89, 180, 0, 26, 43, 182, 0, 65, 96, 181, 0, 26, 42, 180, 0, 12]
abbrev dktX10_reads_4 : List UInt8 := dkwX10_reads_4 ++ dktX10_reads_5
def dkwX10_reads_3 : List UInt8 := [42, 180, 0, 12, 180, 0, 75, 182, 0, 79, 62, 29, 16, 10, 160, 0, 16, 187, 0, 47, 89, 6, 42]
abbrev dktX10_reads_3 : List UInt8 := dkwX10_reads_3 ++ dktX10_reads_4
def dkwX10_reads_2 : List UInt8 := [18, 73, 182, 0, 59, 153, 0, 7, 3, 167, 0, 4, 2, 61, 28, 2, 160, 0, 8, 42, 182, 0, 52, 191]
abbrev dktX10_reads_2 : List UInt8 := dkwX10_reads_2 ++ dktX10_reads_3
def dkwX10_reads_1 : List UInt8 := [182, 0, 59, 153, 0, 7, 4, 167, 0, 30, 43, 18, 71, 182, 0, 59, 153, 0, 7, 5, 167, 0, 17, 43]
abbrev dktX10_reads_1 : List UInt8 := dkwX10_reads_1 ++ dktX10_reads_2
def dkwX10_reads_0 : List UInt8 := [42, 182, 0, 29, 87, 42, 180, 0, 26, 42, 180, 0, 22, 162, 0, 141, 42, 182, 0, 56, 76, 43, 18, 69]
abbrev dktX10_reads_0 : List UInt8 := dkwX10_reads_0 ++ dktX10_reads_1
theorem dksX10_reads_0 : cX10_reads.data.toList.drop 0 = dktX10_reads_0 := by decide +kernel
theorem dksX10_reads_1 : cX10_reads.data.toList.drop 24 = dktX10_reads_1 := dk_seg dksX10_reads_0 24 rfl rfl
theorem dksX10_reads_2 : cX10_reads.data.toList.drop 48 = dktX10_reads_2 := dk_seg dksX10_reads_1 24 rfl rfl
theorem dksX10_reads_3 : cX10_reads.data.toList.drop 72 = dktX10_reads_3 := dk_seg dksX10_reads_2 24 rfl rfl
theorem dksX10_reads_4 : cX10_reads.data.toList.drop 95 = dktX10_reads_4 := dk_seg dksX10_reads_3 23 rfl rfl
theorem dksX10_reads_5 : cX10_reads.data.toList.drop 119 = dktX10_reads_5 := dk_seg dksX10_reads_4 24 rfl rfl
theorem dksX10_reads_6 : cX10_reads.data.toList.drop 143 = dktX10_reads_6 := dk_seg dksX10_reads_5 24 rfl rfl
theorem dX10_reads_0 : decode cX10_reads 0 = .ok (.aload_n 0, 1) := dk_42 (dk_at dksX10_reads_0 0 rfl rfl)
theorem dX10_reads_1 : decode cX10_reads 1 = .ok (.invokevirtual 29, 3) := dk_182 0 29 (dk_at dksX10_reads_0 1 rfl rfl)
theorem dX10_reads_4 : decode cX10_reads 4 = .ok (.pop, 1) := dk_87 (dk_at dksX10_reads_0 4 rfl rfl)
theorem dX10_reads_5 : decode cX10_reads 5 = .ok (.aload_n 0, 1) := dk_42 (dk_at dksX10_reads_0 5 rfl rfl)
theorem dX10_reads_6 : decode cX10_reads 6 = .ok (.getfield 26, 3) := dk_180 0 26 (dk_at dksX10_reads_0 6 rfl rfl)
theorem dX10_reads_9 : decode cX10_reads 9 = .ok (.aload_n 0, 1) := dk_42 (dk_at dksX10_reads_0 9 rfl rfl)
theorem dX10_reads_10 : decode cX10_reads 10 = .ok (.getfield 22, 3) := dk_180 0 22 (dk_at dksX10_reads_0 10 rfl rfl)
theorem dX10_reads_13 : decode cX10_reads 13 = .ok (.if_icmp .ge 141, 3) := dk_162 0 141 (dk_at dksX10_reads_0 13 rfl rfl)
theorem dX10_reads_16 : decode cX10_reads 16 = .ok (.aload_n 0, 1) := dk_42 (dk_at dksX10_reads_0 16 rfl rfl)
theorem dX10_reads_17 : decode cX10_reads 17 = .ok (.invokevirtual 56, 3) := dk_182 0 56 (dk_at dksX10_reads_0 17 rfl rfl)
theorem dX10_reads_20 : decode cX10_reads 20 = .ok (.astore_n 1, 1) := dk_76 (dk_at dksX10_reads_0 20 rfl rfl)
theorem dX10_reads_21 : decode cX10_reads 21 = .ok (.aload_n 1, 1) := dk_43 (dk_at dksX10_reads_0 21 rfl rfl)
theorem dX10_reads_22 : decode cX10_reads 22 = .ok (.ldc 69, 2) := dk_18 69 (dk_at dksX10_reads_0 22 rfl rfl)
theorem dX10_reads_24 : decode cX10_reads 24 = .ok (.invokevirtual 59, 3) := dk_182 0 59 (dk_at dksX10_reads_1 0 rfl rfl)
theorem dX10_reads_27 : decode cX10_reads 27 = .ok (.ifCond .eq 7, 3) := dk_153 0 7 (dk_at dksX10_reads_1 3 rfl rfl)
theorem dX10_reads_30 : decode cX10_reads 30 = .ok (.iconst 1, 1) := dk_4 (dk_at dksX10_reads_1 6 rfl rfl)
theorem dX10_reads_31 : decode cX10_reads 31 = .ok (.goto 30, 3) := dk_167 0 30 (dk_at dksX10_reads_1 7 rfl rfl)
theorem dX10_reads_34 : decode cX10_reads 34 = .ok (.aload_n 1, 1) := dk_43 (dk_at dksX10_reads_1 10 rfl rfl)
theorem dX10_reads_35 : decode cX10_reads 35 = .ok (.ldc 71, 2) := dk_18 71 (dk_at dksX10_reads_1 11 rfl rfl)
theorem dX10_reads_37 : decode cX10_reads 37 = .ok (.invokevirtual 59, 3) := dk_182 0 59 (dk_at dksX10_reads_1 13 rfl rfl)
theorem dX10_reads_40 : decode cX10_reads 40 = .ok (.ifCond .eq 7, 3) := dk_153 0 7 (dk_at dksX10_reads_1 16 rfl rfl)
theorem dX10_reads_43 : decode cX10_reads 43 = .ok (.iconst 2, 1) := dk_5 (dk_at dksX10_reads_1 19 rfl rfl)
theorem dX10_reads_44 : decode cX10_reads 44 = .ok (.goto 17, 3) := dk_167 0 17 (dk_at dksX10_reads_1 20 rfl rfl)
theorem dX10_reads_47 : decode cX10_reads 47 = .ok (.aload_n 1, 1) := dk_43 (dk_at dksX10_reads_1 23 rfl rfl)
theorem dX10_reads_48 : decode cX10_reads 48 = .ok (.ldc 73, 2) := dk_18 73 (dk_at dksX10_reads_2 0 rfl rfl)
theorem dX10_reads_50 : decode cX10_reads 50 = .ok (.invokevirtual 59, 3) := dk_182 0 59 (dk_at dksX10_reads_2 2 rfl rfl)
theorem dX10_reads_53 : decode cX10_reads 53 = .ok (.ifCond .eq 7, 3) := dk_153 0 7 (dk_at dksX10_reads_2 5 rfl rfl)
theorem dX10_reads_56 : decode cX10_reads 56 = .ok (.iconst 0, 1) := dk_3 (dk_at dksX10_reads_2 8 rfl rfl)
theorem dX10_reads_57 : decode cX10_reads 57 = .ok (.goto 4, 3) := dk_167 0 4 (dk_at dksX10_reads_2 9 rfl rfl)
theorem dX10_reads_60 : decode cX10_reads 60 = .ok (.iconst (-1), 1) := dk_2 (dk_at dksX10_reads_2 12 rfl rfl)
theorem dX10_reads_61 : decode cX10_reads 61 = .ok (.istore_n 2, 1) := dk_61 (dk_at dksX10_reads_2 13 rfl rfl)
theorem dX10_reads_62 : decode cX10_reads 62 = .ok (.iload_n 2, 1) := dk_28 (dk_at dksX10_reads_2 14 rfl rfl)
theorem dX10_reads_63 : decode cX10_reads 63 = .ok (.iconst (-1), 1) := dk_2 (dk_at dksX10_reads_2 15 rfl rfl)
theorem dX10_reads_64 : decode cX10_reads 64 = .ok (.if_icmp .ne 8, 3) := dk_160 0 8 (dk_at dksX10_reads_2 16 rfl rfl)
theorem dX10_reads_67 : decode cX10_reads 67 = .ok (.aload_n 0, 1) := dk_42 (dk_at dksX10_reads_2 19 rfl rfl)
theorem dX10_reads_68 : decode cX10_reads 68 = .ok (.invokevirtual 52, 3) := dk_182 0 52 (dk_at dksX10_reads_2 20 rfl rfl)
theorem dX10_reads_71 : decode cX10_reads 71 = .ok (.athrow, 1) := dk_191 (dk_at dksX10_reads_2 23 rfl rfl)
theorem dX10_reads_72 : decode cX10_reads 72 = .ok (.aload_n 0, 1) := dk_42 (dk_at dksX10_reads_3 0 rfl rfl)
theorem dX10_reads_73 : decode cX10_reads 73 = .ok (.getfield 12, 3) := dk_180 0 12 (dk_at dksX10_reads_3 1 rfl rfl)
theorem dX10_reads_76 : decode cX10_reads 76 = .ok (.getfield 75, 3) := dk_180 0 75 (dk_at dksX10_reads_3 4 rfl rfl)
theorem dX10_reads_79 : decode cX10_reads 79 = .ok (.invokevirtual 79, 3) := dk_182 0 79 (dk_at dksX10_reads_3 7 rfl rfl)
theorem dX10_reads_82 : decode cX10_reads 82 = .ok (.istore_n 3, 1) := dk_62 (dk_at dksX10_reads_3 10 rfl rfl)
theorem dX10_reads_83 : decode cX10_reads 83 = .ok (.iload_n 3, 1) := dk_29 (dk_at dksX10_reads_3 11 rfl rfl)
theorem dX10_reads_84 : decode cX10_reads 84 = .ok (.bipush 10, 2) := dk_16 10 (dk_at dksX10_reads_3 12 rfl rfl)
theorem dX10_reads_86 : decode cX10_reads 86 = .ok (.if_icmp .ne 16, 3) := dk_160 0 16 (dk_at dksX10_reads_3 14 rfl rfl)
theorem dX10_reads_89 : decode cX10_reads 89 = .ok (.new 47, 3) := dk_187 0 47 (dk_at dksX10_reads_3 17 rfl rfl)
theorem dX10_reads_92 : decode cX10_reads 92 = .ok (.dup, 1) := dk_89 (dk_at dksX10_reads_3 20 rfl rfl)
theorem dX10_reads_93 : decode cX10_reads 93 = .ok (.iconst 3, 1) := dk_6 (dk_at dksX10_reads_3 21 rfl rfl)
theorem dX10_reads_94 : decode cX10_reads 94 = .ok (.aload_n 0, 1) := dk_42 (dk_at dksX10_reads_3 22 rfl rfl)
theorem dX10_reads_95 : decode cX10_reads 95 = .ok (.getfield 26, 3) := dk_180 0 26 (dk_at dksX10_reads_4 0 rfl rfl)
theorem dX10_reads_98 : decode cX10_reads 98 = .ok (.invokespecial 49, 3) := dk_183 0 49 (dk_at dksX10_reads_4 3 rfl rfl)
theorem dX10_reads_101 : decode cX10_reads 101 = .ok (.athrow, 1) := dk_191 (dk_at dksX10_reads_4 6 rfl rfl)
theorem dX10_reads_102 : decode cX10_reads 102 = .ok (.aload_n 0, 1) := dk_42 (dk_at dksX10_reads_4 7 rfl rfl)
theorem dX10_reads_103 : decode cX10_reads 103 = .ok (.dup, 1) := dk_89 (dk_at dksX10_reads_4 8 rfl rfl)
theorem dX10_reads_104 : decode cX10_reads 104 = .ok (.getfield 26, 3) := dk_180 0 26 (dk_at dksX10_reads_4 9 rfl rfl)
theorem dX10_reads_107 : decode cX10_reads 107 = .ok (.aload_n 1, 1) := dk_43 (dk_at dksX10_reads_4 12 rfl rfl)
theorem dX10_reads_108 : decode cX10_reads 108 = .ok (.invokevirtual 65, 3) := dk_182 0 65 (dk_at dksX10_reads_4 13 rfl rfl)
theorem dX10_reads_111 : decode cX10_reads 111 = .ok (.iadd, 1) := dk_96 (dk_at dksX10_reads_4 16 rfl rfl)
theorem dX10_reads_112 : decode cX10_reads 112 = .ok (.putfield 26, 3) := dk_181 0 26 (dk_at dksX10_reads_4 17 rfl rfl)
theorem dX10_reads_115 : decode cX10_reads 115 = .ok (.aload_n 0, 1) := dk_42 (dk_at dksX10_reads_4 20 rfl rfl)
theorem dX10_reads_116 : decode cX10_reads 116 = .ok (.getfield 12, 3) := dk_180 0 12 (dk_at dksX10_reads_4 21 rfl rfl)
theorem dX10_reads_119 : decode cX10_reads 119 = .ok (.getfield 83, 3) := dk_180 0 83 (dk_at dksX10_reads_5 0 rfl rfl)
theorem dX10_reads_122 : decode cX10_reads 122 = .ok (.iload_n 3, 1) := dk_29 (dk_at dksX10_reads_5 3 rfl rfl)
theorem dX10_reads_123 : decode cX10_reads 123 = .ok (.iload_n 2, 1) := dk_28 (dk_at dksX10_reads_5 4 rfl rfl)
theorem dX10_reads_124 : decode cX10_reads 124 = .ok (.iastore, 1) := dk_79 (dk_at dksX10_reads_5 5 rfl rfl)
theorem dX10_reads_125 : decode cX10_reads 125 = .ok (.aload_n 0, 1) := dk_42 (dk_at dksX10_reads_5 6 rfl rfl)
theorem dX10_reads_126 : decode cX10_reads 126 = .ok (.getfield 12, 3) := dk_180 0 12 (dk_at dksX10_reads_5 7 rfl rfl)
theorem dX10_reads_129 : decode cX10_reads 129 = .ok (.getfield 75, 3) := dk_180 0 75 (dk_at dksX10_reads_5 10 rfl rfl)
theorem dX10_reads_132 : decode cX10_reads 132 = .ok (.aload_n 0, 1) := dk_42 (dk_at dksX10_reads_5 13 rfl rfl)
theorem dX10_reads_133 : decode cX10_reads 133 = .ok (.invokevirtual 87, 3) := dk_182 0 87 (dk_at dksX10_reads_5 14 rfl rfl)
theorem dX10_reads_136 : decode cX10_reads 136 = .ok (.invokevirtual 91, 3) := dk_182 0 91 (dk_at dksX10_reads_5 17 rfl rfl)
theorem dX10_reads_139 : decode cX10_reads 139 = .ok (.pop, 1) := dk_87 (dk_at dksX10_reads_5 20 rfl rfl)
theorem dX10_reads_140 : decode cX10_reads 140 = .ok (.aload_n 0, 1) := dk_42 (dk_at dksX10_reads_5 21 rfl rfl)
theorem dX10_reads_141 : decode cX10_reads 141 = .ok (.bipush 59, 2) := dk_16 59 (dk_at dksX10_reads_5 22 rfl rfl)
theorem dX10_reads_143 : decode cX10_reads 143 = .ok (.invokevirtual 94, 3) := dk_182 0 94 (dk_at dksX10_reads_6 0 rfl rfl)
theorem dX10_reads_146 : decode cX10_reads 146 = .ok (.aload_n 0, 1) := dk_42 (dk_at dksX10_reads_6 3 rfl rfl)
theorem dX10_reads_147 : decode cX10_reads 147 = .ok (.invokevirtual 29, 3) := dk_182 0 29 (dk_at dksX10_reads_6 4 rfl rfl)
theorem dX10_reads_150 : decode cX10_reads 150 = .ok (.pop, 1) := dk_87 (dk_at dksX10_reads_6 7 rfl rfl)
theorem dX10_reads_151 : decode cX10_reads 151 = .ok (.goto (-146), 3) := dk_167 255 110 (dk_at dksX10_reads_6 8 rfl rfl)
theorem dX10_reads_154 : decode cX10_reads 154 = .ok (.aload_n 0, 1) := dk_42 (dk_at dksX10_reads_6 11 rfl rfl)
theorem dX10_reads_155 : decode cX10_reads 155 = .ok (.getfield 12, 3) := dk_180 0 12 (dk_at dksX10_reads_6 12 rfl rfl)
theorem dX10_reads_158 : decode cX10_reads 158 = .ok (.areturn, 1) := dk_176 (dk_at dksX10_reads_6 15 rfl rfl)
abbrev cX10_sign : ByteArray := prog_16_method_2_code
def yX10_sign : MethodName := ⟨RX10, "sign", "()I"⟩
def dkwX10_sign_2 : List UInt8 := [162, 0, 15, 42, 180, 0, 18, 42, 180, 0, 26, 51, 167, 0, 4, 3, 172]
abbrev dktX10_sign_2 : List UInt8 := dkwX10_sign_2 ++ []
def dkwX10_sign_1 : List UInt8 := [160, 0, 16, 42, 89, 180, 0, 26, 4, 96, 181, 0, 26, 167, 255, 221, 42, 180, 0, 26, 42, 180, 0, 22]
abbrev dktX10_sign_1 : List UInt8 := dkwX10_sign_1 ++ dktX10_sign_2
def dkwX10_sign_0 : List UInt8 := [42, 180, 0, 26, 42, 180, 0, 22, 162, 0, 30, 42, 180, 0, 18, 42, 180, 0, 26, 51, 16, 32]
abbrev dktX10_sign_0 : List UInt8 := dkwX10_sign_0 ++ dktX10_sign_1
theorem dksX10_sign_0 : cX10_sign.data.toList.drop 0 = dktX10_sign_0 := by decide +kernel
theorem dksX10_sign_1 : cX10_sign.data.toList.drop 22 = dktX10_sign_1 := dk_seg dksX10_sign_0 22 rfl rfl
theorem dksX10_sign_2 : cX10_sign.data.toList.drop 46 = dktX10_sign_2 := dk_seg dksX10_sign_1 24 rfl rfl
theorem dX10_sign_0 : decode cX10_sign 0 = .ok (.aload_n 0, 1) := dk_42 (dk_at dksX10_sign_0 0 rfl rfl)
theorem dX10_sign_1 : decode cX10_sign 1 = .ok (.getfield 26, 3) := dk_180 0 26 (dk_at dksX10_sign_0 1 rfl rfl)
theorem dX10_sign_4 : decode cX10_sign 4 = .ok (.aload_n 0, 1) := dk_42 (dk_at dksX10_sign_0 4 rfl rfl)
theorem dX10_sign_5 : decode cX10_sign 5 = .ok (.getfield 22, 3) := dk_180 0 22 (dk_at dksX10_sign_0 5 rfl rfl)
theorem dX10_sign_8 : decode cX10_sign 8 = .ok (.if_icmp .ge 30, 3) := dk_162 0 30 (dk_at dksX10_sign_0 8 rfl rfl)
theorem dX10_sign_11 : decode cX10_sign 11 = .ok (.aload_n 0, 1) := dk_42 (dk_at dksX10_sign_0 11 rfl rfl)
theorem dX10_sign_12 : decode cX10_sign 12 = .ok (.getfield 18, 3) := dk_180 0 18 (dk_at dksX10_sign_0 12 rfl rfl)
theorem dX10_sign_15 : decode cX10_sign 15 = .ok (.aload_n 0, 1) := dk_42 (dk_at dksX10_sign_0 15 rfl rfl)
theorem dX10_sign_16 : decode cX10_sign 16 = .ok (.getfield 26, 3) := dk_180 0 26 (dk_at dksX10_sign_0 16 rfl rfl)
theorem dX10_sign_19 : decode cX10_sign 19 = .ok (.baload, 1) := dk_51 (dk_at dksX10_sign_0 19 rfl rfl)
theorem dX10_sign_20 : decode cX10_sign 20 = .ok (.bipush 32, 2) := dk_16 32 (dk_at dksX10_sign_0 20 rfl rfl)
theorem dX10_sign_22 : decode cX10_sign 22 = .ok (.if_icmp .ne 16, 3) := dk_160 0 16 (dk_at dksX10_sign_1 0 rfl rfl)
theorem dX10_sign_25 : decode cX10_sign 25 = .ok (.aload_n 0, 1) := dk_42 (dk_at dksX10_sign_1 3 rfl rfl)
theorem dX10_sign_26 : decode cX10_sign 26 = .ok (.dup, 1) := dk_89 (dk_at dksX10_sign_1 4 rfl rfl)
theorem dX10_sign_27 : decode cX10_sign 27 = .ok (.getfield 26, 3) := dk_180 0 26 (dk_at dksX10_sign_1 5 rfl rfl)
theorem dX10_sign_30 : decode cX10_sign 30 = .ok (.iconst 1, 1) := dk_4 (dk_at dksX10_sign_1 8 rfl rfl)
theorem dX10_sign_31 : decode cX10_sign 31 = .ok (.iadd, 1) := dk_96 (dk_at dksX10_sign_1 9 rfl rfl)
theorem dX10_sign_32 : decode cX10_sign 32 = .ok (.putfield 26, 3) := dk_181 0 26 (dk_at dksX10_sign_1 10 rfl rfl)
theorem dX10_sign_35 : decode cX10_sign 35 = .ok (.goto (-35), 3) := dk_167 255 221 (dk_at dksX10_sign_1 13 rfl rfl)
theorem dX10_sign_38 : decode cX10_sign 38 = .ok (.aload_n 0, 1) := dk_42 (dk_at dksX10_sign_1 16 rfl rfl)
theorem dX10_sign_39 : decode cX10_sign 39 = .ok (.getfield 26, 3) := dk_180 0 26 (dk_at dksX10_sign_1 17 rfl rfl)
theorem dX10_sign_42 : decode cX10_sign 42 = .ok (.aload_n 0, 1) := dk_42 (dk_at dksX10_sign_1 20 rfl rfl)
theorem dX10_sign_43 : decode cX10_sign 43 = .ok (.getfield 22, 3) := dk_180 0 22 (dk_at dksX10_sign_1 21 rfl rfl)
theorem dX10_sign_46 : decode cX10_sign 46 = .ok (.if_icmp .ge 15, 3) := dk_162 0 15 (dk_at dksX10_sign_2 0 rfl rfl)
theorem dX10_sign_49 : decode cX10_sign 49 = .ok (.aload_n 0, 1) := dk_42 (dk_at dksX10_sign_2 3 rfl rfl)
theorem dX10_sign_50 : decode cX10_sign 50 = .ok (.getfield 18, 3) := dk_180 0 18 (dk_at dksX10_sign_2 4 rfl rfl)
theorem dX10_sign_53 : decode cX10_sign 53 = .ok (.aload_n 0, 1) := dk_42 (dk_at dksX10_sign_2 7 rfl rfl)
theorem dX10_sign_54 : decode cX10_sign 54 = .ok (.getfield 26, 3) := dk_180 0 26 (dk_at dksX10_sign_2 8 rfl rfl)
theorem dX10_sign_57 : decode cX10_sign 57 = .ok (.baload, 1) := dk_51 (dk_at dksX10_sign_2 11 rfl rfl)
theorem dX10_sign_58 : decode cX10_sign 58 = .ok (.goto 4, 3) := dk_167 0 4 (dk_at dksX10_sign_2 12 rfl rfl)
theorem dX10_sign_61 : decode cX10_sign 61 = .ok (.iconst 0, 1) := dk_3 (dk_at dksX10_sign_2 15 rfl rfl)
theorem dX10_sign_62 : decode cX10_sign 62 = .ok (.ireturn, 1) := dk_172 (dk_at dksX10_sign_2 16 rfl rfl)
abbrev cX10_word : ByteArray := prog_16_method_3_code
def yX10_word : MethodName := ⟨RX10, "word", "()Ljava/lang/String;"⟩
def dkwX10_word_3 : List UInt8 := [132, 2, 1, 167, 255, 202, 43, 182, 0, 43, 176]
abbrev dktX10_word_3 : List UInt8 := dkwX10_word_3 ++ []
def dkwX10_word_2 : List UInt8 := [163, 0, 30, 43, 182, 0, 36, 16, 7, 162, 0, 21, 43, 42, 180, 0, 18, 28, 51, 146, 182, 0, 39, 87]
abbrev dktX10_word_2 : List UInt8 := dkwX10_word_2 ++ dktX10_word_3
def dkwX10_word_1 : List UInt8 := [162, 0, 52, 42, 180, 0, 18, 28, 51, 16, 97, 161, 0, 41, 42, 180, 0, 18, 28, 51, 16, 122]
abbrev dktX10_word_1 : List UInt8 := dkwX10_word_1 ++ dktX10_word_2
def dkwX10_word_0 : List UInt8 := [42, 182, 0, 29, 87, 187, 0, 33, 89, 183, 0, 35, 76, 42, 180, 0, 26, 61, 28, 42, 180, 0, 22]
abbrev dktX10_word_0 : List UInt8 := dkwX10_word_0 ++ dktX10_word_1
theorem dksX10_word_0 : cX10_word.data.toList.drop 0 = dktX10_word_0 := by decide +kernel
theorem dksX10_word_1 : cX10_word.data.toList.drop 23 = dktX10_word_1 := dk_seg dksX10_word_0 23 rfl rfl
theorem dksX10_word_2 : cX10_word.data.toList.drop 45 = dktX10_word_2 := dk_seg dksX10_word_1 22 rfl rfl
theorem dksX10_word_3 : cX10_word.data.toList.drop 69 = dktX10_word_3 := dk_seg dksX10_word_2 24 rfl rfl
theorem dX10_word_0 : decode cX10_word 0 = .ok (.aload_n 0, 1) := dk_42 (dk_at dksX10_word_0 0 rfl rfl)
theorem dX10_word_1 : decode cX10_word 1 = .ok (.invokevirtual 29, 3) := dk_182 0 29 (dk_at dksX10_word_0 1 rfl rfl)
theorem dX10_word_4 : decode cX10_word 4 = .ok (.pop, 1) := dk_87 (dk_at dksX10_word_0 4 rfl rfl)
theorem dX10_word_5 : decode cX10_word 5 = .ok (.new 33, 3) := dk_187 0 33 (dk_at dksX10_word_0 5 rfl rfl)
theorem dX10_word_8 : decode cX10_word 8 = .ok (.dup, 1) := dk_89 (dk_at dksX10_word_0 8 rfl rfl)
theorem dX10_word_9 : decode cX10_word 9 = .ok (.invokespecial 35, 3) := dk_183 0 35 (dk_at dksX10_word_0 9 rfl rfl)
theorem dX10_word_12 : decode cX10_word 12 = .ok (.astore_n 1, 1) := dk_76 (dk_at dksX10_word_0 12 rfl rfl)
theorem dX10_word_13 : decode cX10_word 13 = .ok (.aload_n 0, 1) := dk_42 (dk_at dksX10_word_0 13 rfl rfl)
theorem dX10_word_14 : decode cX10_word 14 = .ok (.getfield 26, 3) := dk_180 0 26 (dk_at dksX10_word_0 14 rfl rfl)
theorem dX10_word_17 : decode cX10_word 17 = .ok (.istore_n 2, 1) := dk_61 (dk_at dksX10_word_0 17 rfl rfl)
theorem dX10_word_18 : decode cX10_word 18 = .ok (.iload_n 2, 1) := dk_28 (dk_at dksX10_word_0 18 rfl rfl)
theorem dX10_word_19 : decode cX10_word 19 = .ok (.aload_n 0, 1) := dk_42 (dk_at dksX10_word_0 19 rfl rfl)
theorem dX10_word_20 : decode cX10_word 20 = .ok (.getfield 22, 3) := dk_180 0 22 (dk_at dksX10_word_0 20 rfl rfl)
theorem dX10_word_23 : decode cX10_word 23 = .ok (.if_icmp .ge 52, 3) := dk_162 0 52 (dk_at dksX10_word_1 0 rfl rfl)
theorem dX10_word_26 : decode cX10_word 26 = .ok (.aload_n 0, 1) := dk_42 (dk_at dksX10_word_1 3 rfl rfl)
theorem dX10_word_27 : decode cX10_word 27 = .ok (.getfield 18, 3) := dk_180 0 18 (dk_at dksX10_word_1 4 rfl rfl)
theorem dX10_word_30 : decode cX10_word 30 = .ok (.iload_n 2, 1) := dk_28 (dk_at dksX10_word_1 7 rfl rfl)
theorem dX10_word_31 : decode cX10_word 31 = .ok (.baload, 1) := dk_51 (dk_at dksX10_word_1 8 rfl rfl)
theorem dX10_word_32 : decode cX10_word 32 = .ok (.bipush 97, 2) := dk_16 97 (dk_at dksX10_word_1 9 rfl rfl)
theorem dX10_word_34 : decode cX10_word 34 = .ok (.if_icmp .lt 41, 3) := dk_161 0 41 (dk_at dksX10_word_1 11 rfl rfl)
theorem dX10_word_37 : decode cX10_word 37 = .ok (.aload_n 0, 1) := dk_42 (dk_at dksX10_word_1 14 rfl rfl)
theorem dX10_word_38 : decode cX10_word 38 = .ok (.getfield 18, 3) := dk_180 0 18 (dk_at dksX10_word_1 15 rfl rfl)
theorem dX10_word_41 : decode cX10_word 41 = .ok (.iload_n 2, 1) := dk_28 (dk_at dksX10_word_1 18 rfl rfl)
theorem dX10_word_42 : decode cX10_word 42 = .ok (.baload, 1) := dk_51 (dk_at dksX10_word_1 19 rfl rfl)
theorem dX10_word_43 : decode cX10_word 43 = .ok (.bipush 122, 2) := dk_16 122 (dk_at dksX10_word_1 20 rfl rfl)
theorem dX10_word_45 : decode cX10_word 45 = .ok (.if_icmp .gt 30, 3) := dk_163 0 30 (dk_at dksX10_word_2 0 rfl rfl)
theorem dX10_word_48 : decode cX10_word 48 = .ok (.aload_n 1, 1) := dk_43 (dk_at dksX10_word_2 3 rfl rfl)
theorem dX10_word_49 : decode cX10_word 49 = .ok (.invokevirtual 36, 3) := dk_182 0 36 (dk_at dksX10_word_2 4 rfl rfl)
theorem dX10_word_52 : decode cX10_word 52 = .ok (.bipush 7, 2) := dk_16 7 (dk_at dksX10_word_2 7 rfl rfl)
theorem dX10_word_54 : decode cX10_word 54 = .ok (.if_icmp .ge 21, 3) := dk_162 0 21 (dk_at dksX10_word_2 9 rfl rfl)
theorem dX10_word_57 : decode cX10_word 57 = .ok (.aload_n 1, 1) := dk_43 (dk_at dksX10_word_2 12 rfl rfl)
theorem dX10_word_58 : decode cX10_word 58 = .ok (.aload_n 0, 1) := dk_42 (dk_at dksX10_word_2 13 rfl rfl)
theorem dX10_word_59 : decode cX10_word 59 = .ok (.getfield 18, 3) := dk_180 0 18 (dk_at dksX10_word_2 14 rfl rfl)
theorem dX10_word_62 : decode cX10_word 62 = .ok (.iload_n 2, 1) := dk_28 (dk_at dksX10_word_2 17 rfl rfl)
theorem dX10_word_63 : decode cX10_word 63 = .ok (.baload, 1) := dk_51 (dk_at dksX10_word_2 18 rfl rfl)
theorem dX10_word_64 : decode cX10_word 64 = .ok (.i2c, 1) := dk_146 (dk_at dksX10_word_2 19 rfl rfl)
theorem dX10_word_65 : decode cX10_word 65 = .ok (.invokevirtual 39, 3) := dk_182 0 39 (dk_at dksX10_word_2 20 rfl rfl)
theorem dX10_word_68 : decode cX10_word 68 = .ok (.pop, 1) := dk_87 (dk_at dksX10_word_2 23 rfl rfl)
theorem dX10_word_69 : decode cX10_word 69 = .ok (.iinc 2 1, 3) := dk_132 2 1 (dk_at dksX10_word_3 0 rfl rfl)
theorem dX10_word_72 : decode cX10_word 72 = .ok (.goto (-54), 3) := dk_167 255 202 (dk_at dksX10_word_3 3 rfl rfl)
theorem dX10_word_75 : decode cX10_word 75 = .ok (.aload_n 1, 1) := dk_43 (dk_at dksX10_word_3 6 rfl rfl)
theorem dX10_word_76 : decode cX10_word 76 = .ok (.invokevirtual 43, 3) := dk_182 0 43 (dk_at dksX10_word_3 7 rfl rfl)
theorem dX10_word_79 : decode cX10_word 79 = .ok (.areturn, 1) := dk_176 (dk_at dksX10_word_3 10 rfl rfl)
abbrev cX10_wrong : ByteArray := prog_16_method_4_code
def yX10_wrong : MethodName := ⟨RX10, "wrong", "()LLotBeliefs$Wrong;"⟩
def dkwX10_wrong_0 : List UInt8 := [187, 0, 47, 89, 4, 42, 180, 0, 26, 183, 0, 49, 176]
abbrev dktX10_wrong_0 : List UInt8 := dkwX10_wrong_0 ++ []
theorem dksX10_wrong_0 : cX10_wrong.data.toList.drop 0 = dktX10_wrong_0 := by decide +kernel
theorem dX10_wrong_0 : decode cX10_wrong 0 = .ok (.new 47, 3) := dk_187 0 47 (dk_at dksX10_wrong_0 0 rfl rfl)
theorem dX10_wrong_3 : decode cX10_wrong 3 = .ok (.dup, 1) := dk_89 (dk_at dksX10_wrong_0 3 rfl rfl)
theorem dX10_wrong_4 : decode cX10_wrong 4 = .ok (.iconst 1, 1) := dk_4 (dk_at dksX10_wrong_0 4 rfl rfl)
theorem dX10_wrong_5 : decode cX10_wrong 5 = .ok (.aload_n 0, 1) := dk_42 (dk_at dksX10_wrong_0 5 rfl rfl)
theorem dX10_wrong_6 : decode cX10_wrong 6 = .ok (.getfield 26, 3) := dk_180 0 26 (dk_at dksX10_wrong_0 6 rfl rfl)
theorem dX10_wrong_9 : decode cX10_wrong 9 = .ok (.invokespecial 49, 3) := dk_183 0 49 (dk_at dksX10_wrong_0 9 rfl rfl)
theorem dX10_wrong_12 : decode cX10_wrong 12 = .ok (.areturn, 1) := dk_176 (dk_at dksX10_wrong_0 12 rfl rfl)
abbrev cX10_any : ByteArray := prog_16_method_9_code
def yX10_any : MethodName := ⟨RX10, "any", "()LLotBeliefs$Ground;"⟩
def dkwX10_any_1 : List UInt8 := [182, 0, 109, 154, 255, 238, 43, 176]
abbrev dktX10_any_1 : List UInt8 := dkwX10_any_1 ++ []
def dkwX10_any_0 : List UInt8 := [187, 0, 98, 89, 3, 183, 0, 100, 76, 43, 180, 0, 103, 42, 182, 0, 104, 182, 0, 91, 87, 42, 18, 107]
abbrev dktX10_any_0 : List UInt8 := dkwX10_any_0 ++ dktX10_any_1
theorem dksX10_any_0 : cX10_any.data.toList.drop 0 = dktX10_any_0 := by decide +kernel
theorem dksX10_any_1 : cX10_any.data.toList.drop 24 = dktX10_any_1 := dk_seg dksX10_any_0 24 rfl rfl
theorem dX10_any_0 : decode cX10_any 0 = .ok (.new 98, 3) := dk_187 0 98 (dk_at dksX10_any_0 0 rfl rfl)
theorem dX10_any_3 : decode cX10_any 3 = .ok (.dup, 1) := dk_89 (dk_at dksX10_any_0 3 rfl rfl)
theorem dX10_any_4 : decode cX10_any 4 = .ok (.iconst 0, 1) := dk_3 (dk_at dksX10_any_0 4 rfl rfl)
theorem dX10_any_5 : decode cX10_any 5 = .ok (.invokespecial 100, 3) := dk_183 0 100 (dk_at dksX10_any_0 5 rfl rfl)
theorem dX10_any_8 : decode cX10_any 8 = .ok (.astore_n 1, 1) := dk_76 (dk_at dksX10_any_0 8 rfl rfl)
theorem dX10_any_9 : decode cX10_any 9 = .ok (.aload_n 1, 1) := dk_43 (dk_at dksX10_any_0 9 rfl rfl)
theorem dX10_any_10 : decode cX10_any 10 = .ok (.getfield 103, 3) := dk_180 0 103 (dk_at dksX10_any_0 10 rfl rfl)
theorem dX10_any_13 : decode cX10_any 13 = .ok (.aload_n 0, 1) := dk_42 (dk_at dksX10_any_0 13 rfl rfl)
theorem dX10_any_14 : decode cX10_any 14 = .ok (.invokevirtual 104, 3) := dk_182 0 104 (dk_at dksX10_any_0 14 rfl rfl)
theorem dX10_any_17 : decode cX10_any 17 = .ok (.invokevirtual 91, 3) := dk_182 0 91 (dk_at dksX10_any_0 17 rfl rfl)
theorem dX10_any_20 : decode cX10_any 20 = .ok (.pop, 1) := dk_87 (dk_at dksX10_any_0 20 rfl rfl)
theorem dX10_any_21 : decode cX10_any 21 = .ok (.aload_n 0, 1) := dk_42 (dk_at dksX10_any_0 21 rfl rfl)
theorem dX10_any_22 : decode cX10_any 22 = .ok (.ldc 107, 2) := dk_18 107 (dk_at dksX10_any_0 22 rfl rfl)
theorem dX10_any_24 : decode cX10_any 24 = .ok (.invokevirtual 109, 3) := dk_182 0 109 (dk_at dksX10_any_1 0 rfl rfl)
theorem dX10_any_27 : decode cX10_any 27 = .ok (.ifCond .ne (-18), 3) := dk_154 255 238 (dk_at dksX10_any_1 3 rfl rfl)
theorem dX10_any_30 : decode cX10_any 30 = .ok (.aload_n 1, 1) := dk_43 (dk_at dksX10_any_1 6 rfl rfl)
theorem dX10_any_31 : decode cX10_any 31 = .ok (.areturn, 1) := dk_176 (dk_at dksX10_any_1 7 rfl rfl)
abbrev cX10_all : ByteArray := prog_16_method_10_code
def yX10_all : MethodName := ⟨RX10, "all", "()LLotBeliefs$Ground;"⟩
def dkwX10_all_1 : List UInt8 := [182, 0, 109, 154, 255, 238, 43, 176]
abbrev dktX10_all_1 : List UInt8 := dkwX10_all_1 ++ []
def dkwX10_all_0 : List UInt8 := [187, 0, 98, 89, 4, 183, 0, 100, 76, 43, 180, 0, 103, 42, 182, 0, 113, 182, 0, 91, 87, 42, 18, 116]
abbrev dktX10_all_0 : List UInt8 := dkwX10_all_0 ++ dktX10_all_1
theorem dksX10_all_0 : cX10_all.data.toList.drop 0 = dktX10_all_0 := by decide +kernel
theorem dksX10_all_1 : cX10_all.data.toList.drop 24 = dktX10_all_1 := dk_seg dksX10_all_0 24 rfl rfl
theorem dX10_all_0 : decode cX10_all 0 = .ok (.new 98, 3) := dk_187 0 98 (dk_at dksX10_all_0 0 rfl rfl)
theorem dX10_all_3 : decode cX10_all 3 = .ok (.dup, 1) := dk_89 (dk_at dksX10_all_0 3 rfl rfl)
theorem dX10_all_4 : decode cX10_all 4 = .ok (.iconst 1, 1) := dk_4 (dk_at dksX10_all_0 4 rfl rfl)
theorem dX10_all_5 : decode cX10_all 5 = .ok (.invokespecial 100, 3) := dk_183 0 100 (dk_at dksX10_all_0 5 rfl rfl)
theorem dX10_all_8 : decode cX10_all 8 = .ok (.astore_n 1, 1) := dk_76 (dk_at dksX10_all_0 8 rfl rfl)
theorem dX10_all_9 : decode cX10_all 9 = .ok (.aload_n 1, 1) := dk_43 (dk_at dksX10_all_0 9 rfl rfl)
theorem dX10_all_10 : decode cX10_all 10 = .ok (.getfield 103, 3) := dk_180 0 103 (dk_at dksX10_all_0 10 rfl rfl)
theorem dX10_all_13 : decode cX10_all 13 = .ok (.aload_n 0, 1) := dk_42 (dk_at dksX10_all_0 13 rfl rfl)
theorem dX10_all_14 : decode cX10_all 14 = .ok (.invokevirtual 113, 3) := dk_182 0 113 (dk_at dksX10_all_0 14 rfl rfl)
theorem dX10_all_17 : decode cX10_all 17 = .ok (.invokevirtual 91, 3) := dk_182 0 91 (dk_at dksX10_all_0 17 rfl rfl)
theorem dX10_all_20 : decode cX10_all 20 = .ok (.pop, 1) := dk_87 (dk_at dksX10_all_0 20 rfl rfl)
theorem dX10_all_21 : decode cX10_all 21 = .ok (.aload_n 0, 1) := dk_42 (dk_at dksX10_all_0 21 rfl rfl)
theorem dX10_all_22 : decode cX10_all 22 = .ok (.ldc 116, 2) := dk_18 116 (dk_at dksX10_all_0 22 rfl rfl)
theorem dX10_all_24 : decode cX10_all 24 = .ok (.invokevirtual 109, 3) := dk_182 0 109 (dk_at dksX10_all_1 0 rfl rfl)
theorem dX10_all_27 : decode cX10_all 27 = .ok (.ifCond .ne (-18), 3) := dk_154 255 238 (dk_at dksX10_all_1 3 rfl rfl)
theorem dX10_all_30 : decode cX10_all 30 = .ok (.aload_n 1, 1) := dk_43 (dk_at dksX10_all_1 6 rfl rfl)
theorem dX10_all_31 : decode cX10_all 31 = .ok (.areturn, 1) := dk_176 (dk_at dksX10_all_1 7 rfl rfl)
abbrev cX10_one : ByteArray := prog_16_method_11_code
def yX10_one : MethodName := ⟨RX10, "one", "()LLotBeliefs$Ground;"⟩
def dkwX10_one_5 : List UInt8 := [180, 0, 26, 4, 96, 181, 0, 26, 187, 0, 132, 89, 43, 28, 42, 182, 0, 128, 183, 0, 134, 176]
abbrev dktX10_one_5 : List UInt8 := dkwX10_one_5 ++ []
def dkwX10_one_4 : List UInt8 := [159, 0, 20, 28, 16, 62, 159, 0, 14, 28, 16, 61, 159, 0, 8, 42, 182, 0, 52, 191, 42, 89]
abbrev dktX10_one_4 : List UInt8 := dkwX10_one_4 ++ dktX10_one_5
def dkwX10_one_3 : List UInt8 := [180, 0, 66, 4, 100, 181, 0, 66, 43, 176, 42, 182, 0, 128, 76, 42, 182, 0, 29, 61, 28, 16, 60]
abbrev dktX10_one_3 : List UInt8 := dkwX10_one_3 ++ dktX10_one_4
def dkwX10_one_2 : List UInt8 := [16, 91, 160, 0, 31, 42, 4, 182, 0, 120, 42, 182, 0, 87, 76, 42, 16, 93, 182, 0, 94, 42, 89]
abbrev dktX10_one_2 : List UInt8 := dkwX10_one_2 ++ dktX10_one_3
def dkwX10_one_1 : List UInt8 := [182, 0, 113, 183, 0, 125, 76, 42, 89, 180, 0, 66, 4, 100, 181, 0, 66, 43, 176, 42, 182, 0, 29]
abbrev dktX10_one_1 : List UInt8 := dkwX10_one_1 ++ dktX10_one_2
def dkwX10_one_0 : List UInt8 := [42, 182, 0, 56, 18, 118, 182, 0, 59, 153, 0, 32, 42, 6, 182, 0, 120, 187, 0, 123, 89, 42]
abbrev dktX10_one_0 : List UInt8 := dkwX10_one_0 ++ dktX10_one_1
theorem dksX10_one_0 : cX10_one.data.toList.drop 0 = dktX10_one_0 := by decide +kernel
theorem dksX10_one_1 : cX10_one.data.toList.drop 22 = dktX10_one_1 := dk_seg dksX10_one_0 22 rfl rfl
theorem dksX10_one_2 : cX10_one.data.toList.drop 45 = dktX10_one_2 := dk_seg dksX10_one_1 23 rfl rfl
theorem dksX10_one_3 : cX10_one.data.toList.drop 68 = dktX10_one_3 := dk_seg dksX10_one_2 23 rfl rfl
theorem dksX10_one_4 : cX10_one.data.toList.drop 91 = dktX10_one_4 := dk_seg dksX10_one_3 23 rfl rfl
theorem dksX10_one_5 : cX10_one.data.toList.drop 113 = dktX10_one_5 := dk_seg dksX10_one_4 22 rfl rfl
theorem dX10_one_0 : decode cX10_one 0 = .ok (.aload_n 0, 1) := dk_42 (dk_at dksX10_one_0 0 rfl rfl)
theorem dX10_one_1 : decode cX10_one 1 = .ok (.invokevirtual 56, 3) := dk_182 0 56 (dk_at dksX10_one_0 1 rfl rfl)
theorem dX10_one_4 : decode cX10_one 4 = .ok (.ldc 118, 2) := dk_18 118 (dk_at dksX10_one_0 4 rfl rfl)
theorem dX10_one_6 : decode cX10_one 6 = .ok (.invokevirtual 59, 3) := dk_182 0 59 (dk_at dksX10_one_0 6 rfl rfl)
theorem dX10_one_9 : decode cX10_one 9 = .ok (.ifCond .eq 32, 3) := dk_153 0 32 (dk_at dksX10_one_0 9 rfl rfl)
theorem dX10_one_12 : decode cX10_one 12 = .ok (.aload_n 0, 1) := dk_42 (dk_at dksX10_one_0 12 rfl rfl)
theorem dX10_one_13 : decode cX10_one 13 = .ok (.iconst 3, 1) := dk_6 (dk_at dksX10_one_0 13 rfl rfl)
theorem dX10_one_14 : decode cX10_one 14 = .ok (.invokevirtual 120, 3) := dk_182 0 120 (dk_at dksX10_one_0 14 rfl rfl)
theorem dX10_one_17 : decode cX10_one 17 = .ok (.new 123, 3) := dk_187 0 123 (dk_at dksX10_one_0 17 rfl rfl)
theorem dX10_one_20 : decode cX10_one 20 = .ok (.dup, 1) := dk_89 (dk_at dksX10_one_0 20 rfl rfl)
theorem dX10_one_21 : decode cX10_one 21 = .ok (.aload_n 0, 1) := dk_42 (dk_at dksX10_one_0 21 rfl rfl)
theorem dX10_one_22 : decode cX10_one 22 = .ok (.invokevirtual 113, 3) := dk_182 0 113 (dk_at dksX10_one_1 0 rfl rfl)
theorem dX10_one_25 : decode cX10_one 25 = .ok (.invokespecial 125, 3) := dk_183 0 125 (dk_at dksX10_one_1 3 rfl rfl)
theorem dX10_one_28 : decode cX10_one 28 = .ok (.astore_n 1, 1) := dk_76 (dk_at dksX10_one_1 6 rfl rfl)
theorem dX10_one_29 : decode cX10_one 29 = .ok (.aload_n 0, 1) := dk_42 (dk_at dksX10_one_1 7 rfl rfl)
theorem dX10_one_30 : decode cX10_one 30 = .ok (.dup, 1) := dk_89 (dk_at dksX10_one_1 8 rfl rfl)
theorem dX10_one_31 : decode cX10_one 31 = .ok (.getfield 66, 3) := dk_180 0 66 (dk_at dksX10_one_1 9 rfl rfl)
theorem dX10_one_34 : decode cX10_one 34 = .ok (.iconst 1, 1) := dk_4 (dk_at dksX10_one_1 12 rfl rfl)
theorem dX10_one_35 : decode cX10_one 35 = .ok (.isub, 1) := dk_100 (dk_at dksX10_one_1 13 rfl rfl)
theorem dX10_one_36 : decode cX10_one 36 = .ok (.putfield 66, 3) := dk_181 0 66 (dk_at dksX10_one_1 14 rfl rfl)
theorem dX10_one_39 : decode cX10_one 39 = .ok (.aload_n 1, 1) := dk_43 (dk_at dksX10_one_1 17 rfl rfl)
theorem dX10_one_40 : decode cX10_one 40 = .ok (.areturn, 1) := dk_176 (dk_at dksX10_one_1 18 rfl rfl)
theorem dX10_one_41 : decode cX10_one 41 = .ok (.aload_n 0, 1) := dk_42 (dk_at dksX10_one_1 19 rfl rfl)
theorem dX10_one_42 : decode cX10_one 42 = .ok (.invokevirtual 29, 3) := dk_182 0 29 (dk_at dksX10_one_1 20 rfl rfl)
theorem dX10_one_45 : decode cX10_one 45 = .ok (.bipush 91, 2) := dk_16 91 (dk_at dksX10_one_2 0 rfl rfl)
theorem dX10_one_47 : decode cX10_one 47 = .ok (.if_icmp .ne 31, 3) := dk_160 0 31 (dk_at dksX10_one_2 2 rfl rfl)
theorem dX10_one_50 : decode cX10_one 50 = .ok (.aload_n 0, 1) := dk_42 (dk_at dksX10_one_2 5 rfl rfl)
theorem dX10_one_51 : decode cX10_one 51 = .ok (.iconst 1, 1) := dk_4 (dk_at dksX10_one_2 6 rfl rfl)
theorem dX10_one_52 : decode cX10_one 52 = .ok (.invokevirtual 120, 3) := dk_182 0 120 (dk_at dksX10_one_2 7 rfl rfl)
theorem dX10_one_55 : decode cX10_one 55 = .ok (.aload_n 0, 1) := dk_42 (dk_at dksX10_one_2 10 rfl rfl)
theorem dX10_one_56 : decode cX10_one 56 = .ok (.invokevirtual 87, 3) := dk_182 0 87 (dk_at dksX10_one_2 11 rfl rfl)
theorem dX10_one_59 : decode cX10_one 59 = .ok (.astore_n 1, 1) := dk_76 (dk_at dksX10_one_2 14 rfl rfl)
theorem dX10_one_60 : decode cX10_one 60 = .ok (.aload_n 0, 1) := dk_42 (dk_at dksX10_one_2 15 rfl rfl)
theorem dX10_one_61 : decode cX10_one 61 = .ok (.bipush 93, 2) := dk_16 93 (dk_at dksX10_one_2 16 rfl rfl)
theorem dX10_one_63 : decode cX10_one 63 = .ok (.invokevirtual 94, 3) := dk_182 0 94 (dk_at dksX10_one_2 18 rfl rfl)
theorem dX10_one_66 : decode cX10_one 66 = .ok (.aload_n 0, 1) := dk_42 (dk_at dksX10_one_2 21 rfl rfl)
theorem dX10_one_67 : decode cX10_one 67 = .ok (.dup, 1) := dk_89 (dk_at dksX10_one_2 22 rfl rfl)
theorem dX10_one_68 : decode cX10_one 68 = .ok (.getfield 66, 3) := dk_180 0 66 (dk_at dksX10_one_3 0 rfl rfl)
theorem dX10_one_71 : decode cX10_one 71 = .ok (.iconst 1, 1) := dk_4 (dk_at dksX10_one_3 3 rfl rfl)
theorem dX10_one_72 : decode cX10_one 72 = .ok (.isub, 1) := dk_100 (dk_at dksX10_one_3 4 rfl rfl)
theorem dX10_one_73 : decode cX10_one 73 = .ok (.putfield 66, 3) := dk_181 0 66 (dk_at dksX10_one_3 5 rfl rfl)
theorem dX10_one_76 : decode cX10_one 76 = .ok (.aload_n 1, 1) := dk_43 (dk_at dksX10_one_3 8 rfl rfl)
theorem dX10_one_77 : decode cX10_one 77 = .ok (.areturn, 1) := dk_176 (dk_at dksX10_one_3 9 rfl rfl)
theorem dX10_one_78 : decode cX10_one 78 = .ok (.aload_n 0, 1) := dk_42 (dk_at dksX10_one_3 10 rfl rfl)
theorem dX10_one_79 : decode cX10_one 79 = .ok (.invokevirtual 128, 3) := dk_182 0 128 (dk_at dksX10_one_3 11 rfl rfl)
theorem dX10_one_82 : decode cX10_one 82 = .ok (.astore_n 1, 1) := dk_76 (dk_at dksX10_one_3 14 rfl rfl)
theorem dX10_one_83 : decode cX10_one 83 = .ok (.aload_n 0, 1) := dk_42 (dk_at dksX10_one_3 15 rfl rfl)
theorem dX10_one_84 : decode cX10_one 84 = .ok (.invokevirtual 29, 3) := dk_182 0 29 (dk_at dksX10_one_3 16 rfl rfl)
theorem dX10_one_87 : decode cX10_one 87 = .ok (.istore_n 2, 1) := dk_61 (dk_at dksX10_one_3 19 rfl rfl)
theorem dX10_one_88 : decode cX10_one 88 = .ok (.iload_n 2, 1) := dk_28 (dk_at dksX10_one_3 20 rfl rfl)
theorem dX10_one_89 : decode cX10_one 89 = .ok (.bipush 60, 2) := dk_16 60 (dk_at dksX10_one_3 21 rfl rfl)
theorem dX10_one_91 : decode cX10_one 91 = .ok (.if_icmp .eq 20, 3) := dk_159 0 20 (dk_at dksX10_one_4 0 rfl rfl)
theorem dX10_one_94 : decode cX10_one 94 = .ok (.iload_n 2, 1) := dk_28 (dk_at dksX10_one_4 3 rfl rfl)
theorem dX10_one_95 : decode cX10_one 95 = .ok (.bipush 62, 2) := dk_16 62 (dk_at dksX10_one_4 4 rfl rfl)
theorem dX10_one_97 : decode cX10_one 97 = .ok (.if_icmp .eq 14, 3) := dk_159 0 14 (dk_at dksX10_one_4 6 rfl rfl)
theorem dX10_one_100 : decode cX10_one 100 = .ok (.iload_n 2, 1) := dk_28 (dk_at dksX10_one_4 9 rfl rfl)
theorem dX10_one_101 : decode cX10_one 101 = .ok (.bipush 61, 2) := dk_16 61 (dk_at dksX10_one_4 10 rfl rfl)
theorem dX10_one_103 : decode cX10_one 103 = .ok (.if_icmp .eq 8, 3) := dk_159 0 8 (dk_at dksX10_one_4 12 rfl rfl)
theorem dX10_one_106 : decode cX10_one 106 = .ok (.aload_n 0, 1) := dk_42 (dk_at dksX10_one_4 15 rfl rfl)
theorem dX10_one_107 : decode cX10_one 107 = .ok (.invokevirtual 52, 3) := dk_182 0 52 (dk_at dksX10_one_4 16 rfl rfl)
theorem dX10_one_110 : decode cX10_one 110 = .ok (.athrow, 1) := dk_191 (dk_at dksX10_one_4 19 rfl rfl)
theorem dX10_one_111 : decode cX10_one 111 = .ok (.aload_n 0, 1) := dk_42 (dk_at dksX10_one_4 20 rfl rfl)
theorem dX10_one_112 : decode cX10_one 112 = .ok (.dup, 1) := dk_89 (dk_at dksX10_one_4 21 rfl rfl)
theorem dX10_one_113 : decode cX10_one 113 = .ok (.getfield 26, 3) := dk_180 0 26 (dk_at dksX10_one_5 0 rfl rfl)
theorem dX10_one_116 : decode cX10_one 116 = .ok (.iconst 1, 1) := dk_4 (dk_at dksX10_one_5 3 rfl rfl)
theorem dX10_one_117 : decode cX10_one 117 = .ok (.iadd, 1) := dk_96 (dk_at dksX10_one_5 4 rfl rfl)
theorem dX10_one_118 : decode cX10_one 118 = .ok (.putfield 26, 3) := dk_181 0 26 (dk_at dksX10_one_5 5 rfl rfl)
theorem dX10_one_121 : decode cX10_one 121 = .ok (.new 132, 3) := dk_187 0 132 (dk_at dksX10_one_5 8 rfl rfl)
theorem dX10_one_124 : decode cX10_one 124 = .ok (.dup, 1) := dk_89 (dk_at dksX10_one_5 11 rfl rfl)
theorem dX10_one_125 : decode cX10_one 125 = .ok (.aload_n 1, 1) := dk_43 (dk_at dksX10_one_5 12 rfl rfl)
theorem dX10_one_126 : decode cX10_one 126 = .ok (.iload_n 2, 1) := dk_28 (dk_at dksX10_one_5 13 rfl rfl)
theorem dX10_one_127 : decode cX10_one 127 = .ok (.aload_n 0, 1) := dk_42 (dk_at dksX10_one_5 14 rfl rfl)
theorem dX10_one_128 : decode cX10_one 128 = .ok (.invokevirtual 128, 3) := dk_182 0 128 (dk_at dksX10_one_5 15 rfl rfl)
theorem dX10_one_131 : decode cX10_one 131 = .ok (.invokespecial 134, 3) := dk_183 0 134 (dk_at dksX10_one_5 18 rfl rfl)
theorem dX10_one_134 : decode cX10_one 134 = .ok (.areturn, 1) := dk_176 (dk_at dksX10_one_5 21 rfl rfl)
abbrev cX10_opens : ByteArray := prog_16_method_7_code
def yX10_opens : MethodName := ⟨RX10, "opens", "(I)V"⟩
def dkwX10_opens_1 : List UInt8 := [180, 0, 26, 27, 96, 181, 0, 26, 42, 89, 180, 0, 66, 4, 96, 181, 0, 66, 177]
abbrev dktX10_opens_1 : List UInt8 := dkwX10_opens_1 ++ []
def dkwX10_opens_0 : List UInt8 := [42, 180, 0, 66, 16, 6, 160, 0, 16, 187, 0, 47, 89, 6, 42, 180, 0, 26, 183, 0, 49, 191, 42, 89]
abbrev dktX10_opens_0 : List UInt8 := dkwX10_opens_0 ++ dktX10_opens_1
theorem dksX10_opens_0 : cX10_opens.data.toList.drop 0 = dktX10_opens_0 := by decide +kernel
theorem dksX10_opens_1 : cX10_opens.data.toList.drop 24 = dktX10_opens_1 := dk_seg dksX10_opens_0 24 rfl rfl
theorem dX10_opens_0 : decode cX10_opens 0 = .ok (.aload_n 0, 1) := dk_42 (dk_at dksX10_opens_0 0 rfl rfl)
theorem dX10_opens_1 : decode cX10_opens 1 = .ok (.getfield 66, 3) := dk_180 0 66 (dk_at dksX10_opens_0 1 rfl rfl)
theorem dX10_opens_4 : decode cX10_opens 4 = .ok (.bipush 6, 2) := dk_16 6 (dk_at dksX10_opens_0 4 rfl rfl)
theorem dX10_opens_6 : decode cX10_opens 6 = .ok (.if_icmp .ne 16, 3) := dk_160 0 16 (dk_at dksX10_opens_0 6 rfl rfl)
theorem dX10_opens_9 : decode cX10_opens 9 = .ok (.new 47, 3) := dk_187 0 47 (dk_at dksX10_opens_0 9 rfl rfl)
theorem dX10_opens_12 : decode cX10_opens 12 = .ok (.dup, 1) := dk_89 (dk_at dksX10_opens_0 12 rfl rfl)
theorem dX10_opens_13 : decode cX10_opens 13 = .ok (.iconst 3, 1) := dk_6 (dk_at dksX10_opens_0 13 rfl rfl)
theorem dX10_opens_14 : decode cX10_opens 14 = .ok (.aload_n 0, 1) := dk_42 (dk_at dksX10_opens_0 14 rfl rfl)
theorem dX10_opens_15 : decode cX10_opens 15 = .ok (.getfield 26, 3) := dk_180 0 26 (dk_at dksX10_opens_0 15 rfl rfl)
theorem dX10_opens_18 : decode cX10_opens 18 = .ok (.invokespecial 49, 3) := dk_183 0 49 (dk_at dksX10_opens_0 18 rfl rfl)
theorem dX10_opens_21 : decode cX10_opens 21 = .ok (.athrow, 1) := dk_191 (dk_at dksX10_opens_0 21 rfl rfl)
theorem dX10_opens_22 : decode cX10_opens 22 = .ok (.aload_n 0, 1) := dk_42 (dk_at dksX10_opens_0 22 rfl rfl)
theorem dX10_opens_23 : decode cX10_opens 23 = .ok (.dup, 1) := dk_89 (dk_at dksX10_opens_0 23 rfl rfl)
theorem dX10_opens_24 : decode cX10_opens 24 = .ok (.getfield 26, 3) := dk_180 0 26 (dk_at dksX10_opens_1 0 rfl rfl)
theorem dX10_opens_27 : decode cX10_opens 27 = .ok (.iload_n 1, 1) := dk_27 (dk_at dksX10_opens_1 3 rfl rfl)
theorem dX10_opens_28 : decode cX10_opens 28 = .ok (.iadd, 1) := dk_96 (dk_at dksX10_opens_1 4 rfl rfl)
theorem dX10_opens_29 : decode cX10_opens 29 = .ok (.putfield 26, 3) := dk_181 0 26 (dk_at dksX10_opens_1 5 rfl rfl)
theorem dX10_opens_32 : decode cX10_opens 32 = .ok (.aload_n 0, 1) := dk_42 (dk_at dksX10_opens_1 8 rfl rfl)
theorem dX10_opens_33 : decode cX10_opens 33 = .ok (.dup, 1) := dk_89 (dk_at dksX10_opens_1 9 rfl rfl)
theorem dX10_opens_34 : decode cX10_opens 34 = .ok (.getfield 66, 3) := dk_180 0 66 (dk_at dksX10_opens_1 10 rfl rfl)
theorem dX10_opens_37 : decode cX10_opens 37 = .ok (.iconst 1, 1) := dk_4 (dk_at dksX10_opens_1 13 rfl rfl)
theorem dX10_opens_38 : decode cX10_opens 38 = .ok (.iadd, 1) := dk_96 (dk_at dksX10_opens_1 14 rfl rfl)
theorem dX10_opens_39 : decode cX10_opens 39 = .ok (.putfield 66, 3) := dk_181 0 66 (dk_at dksX10_opens_1 15 rfl rfl)
theorem dX10_opens_42 : decode cX10_opens 42 = .ok (.return_, 1) := dk_177 (dk_at dksX10_opens_1 18 rfl rfl)
abbrev cX10_need : ByteArray := prog_16_method_5_code
def yX10_need : MethodName := ⟨RX10, "need", "(I)V"⟩
def dkwX10_need_0 : List UInt8 := [42, 182, 0, 29, 27, 159, 0, 8, 42, 182, 0, 52, 191, 42, 89, 180, 0, 26, 4, 96, 181, 0, 26, 177]
abbrev dktX10_need_0 : List UInt8 := dkwX10_need_0 ++ []
theorem dksX10_need_0 : cX10_need.data.toList.drop 0 = dktX10_need_0 := by decide +kernel
theorem dX10_need_0 : decode cX10_need 0 = .ok (.aload_n 0, 1) := dk_42 (dk_at dksX10_need_0 0 rfl rfl)
theorem dX10_need_1 : decode cX10_need 1 = .ok (.invokevirtual 29, 3) := dk_182 0 29 (dk_at dksX10_need_0 1 rfl rfl)
theorem dX10_need_4 : decode cX10_need 4 = .ok (.iload_n 1, 1) := dk_27 (dk_at dksX10_need_0 4 rfl rfl)
theorem dX10_need_5 : decode cX10_need 5 = .ok (.if_icmp .eq 8, 3) := dk_159 0 8 (dk_at dksX10_need_0 5 rfl rfl)
theorem dX10_need_8 : decode cX10_need 8 = .ok (.aload_n 0, 1) := dk_42 (dk_at dksX10_need_0 8 rfl rfl)
theorem dX10_need_9 : decode cX10_need 9 = .ok (.invokevirtual 52, 3) := dk_182 0 52 (dk_at dksX10_need_0 9 rfl rfl)
theorem dX10_need_12 : decode cX10_need 12 = .ok (.athrow, 1) := dk_191 (dk_at dksX10_need_0 12 rfl rfl)
theorem dX10_need_13 : decode cX10_need 13 = .ok (.aload_n 0, 1) := dk_42 (dk_at dksX10_need_0 13 rfl rfl)
theorem dX10_need_14 : decode cX10_need 14 = .ok (.dup, 1) := dk_89 (dk_at dksX10_need_0 14 rfl rfl)
theorem dX10_need_15 : decode cX10_need 15 = .ok (.getfield 26, 3) := dk_180 0 26 (dk_at dksX10_need_0 15 rfl rfl)
theorem dX10_need_18 : decode cX10_need 18 = .ok (.iconst 1, 1) := dk_4 (dk_at dksX10_need_0 18 rfl rfl)
theorem dX10_need_19 : decode cX10_need 19 = .ok (.iadd, 1) := dk_96 (dk_at dksX10_need_0 19 rfl rfl)
theorem dX10_need_20 : decode cX10_need 20 = .ok (.putfield 26, 3) := dk_181 0 26 (dk_at dksX10_need_0 20 rfl rfl)
theorem dX10_need_23 : decode cX10_need 23 = .ok (.return_, 1) := dk_177 (dk_at dksX10_need_0 23 rfl rfl)
abbrev cX10_sum : ByteArray := prog_16_method_12_code
def yX10_sum : MethodName := ⟨RX10, "sum", "()LLotBeliefs$Term;"⟩
def dkwX10_sum_2 : List UInt8 := [28, 42, 182, 0, 139, 182, 0, 145, 167, 255, 214, 43, 176]
abbrev dktX10_sum_2 : List UInt8 := dkwX10_sum_2 ++ []
def dkwX10_sum_1 : List UInt8 := [182, 0, 29, 16, 45, 160, 0, 30, 42, 182, 0, 29, 61, 42, 89, 180, 0, 26, 4, 96, 181, 0, 26, 43]
abbrev dktX10_sum_1 : List UInt8 := dkwX10_sum_1 ++ dktX10_sum_2
def dkwX10_sum_0 : List UInt8 := [187, 0, 137, 89, 42, 182, 0, 139, 183, 0, 142, 76, 42, 182, 0, 29, 16, 43, 159, 0, 12, 42]
abbrev dktX10_sum_0 : List UInt8 := dkwX10_sum_0 ++ dktX10_sum_1
theorem dksX10_sum_0 : cX10_sum.data.toList.drop 0 = dktX10_sum_0 := by decide +kernel
theorem dksX10_sum_1 : cX10_sum.data.toList.drop 22 = dktX10_sum_1 := dk_seg dksX10_sum_0 22 rfl rfl
theorem dksX10_sum_2 : cX10_sum.data.toList.drop 46 = dktX10_sum_2 := dk_seg dksX10_sum_1 24 rfl rfl
theorem dX10_sum_0 : decode cX10_sum 0 = .ok (.new 137, 3) := dk_187 0 137 (dk_at dksX10_sum_0 0 rfl rfl)
theorem dX10_sum_3 : decode cX10_sum 3 = .ok (.dup, 1) := dk_89 (dk_at dksX10_sum_0 3 rfl rfl)
theorem dX10_sum_4 : decode cX10_sum 4 = .ok (.aload_n 0, 1) := dk_42 (dk_at dksX10_sum_0 4 rfl rfl)
theorem dX10_sum_5 : decode cX10_sum 5 = .ok (.invokevirtual 139, 3) := dk_182 0 139 (dk_at dksX10_sum_0 5 rfl rfl)
theorem dX10_sum_8 : decode cX10_sum 8 = .ok (.invokespecial 142, 3) := dk_183 0 142 (dk_at dksX10_sum_0 8 rfl rfl)
theorem dX10_sum_11 : decode cX10_sum 11 = .ok (.astore_n 1, 1) := dk_76 (dk_at dksX10_sum_0 11 rfl rfl)
theorem dX10_sum_12 : decode cX10_sum 12 = .ok (.aload_n 0, 1) := dk_42 (dk_at dksX10_sum_0 12 rfl rfl)
theorem dX10_sum_13 : decode cX10_sum 13 = .ok (.invokevirtual 29, 3) := dk_182 0 29 (dk_at dksX10_sum_0 13 rfl rfl)
theorem dX10_sum_16 : decode cX10_sum 16 = .ok (.bipush 43, 2) := dk_16 43 (dk_at dksX10_sum_0 16 rfl rfl)
theorem dX10_sum_18 : decode cX10_sum 18 = .ok (.if_icmp .eq 12, 3) := dk_159 0 12 (dk_at dksX10_sum_0 18 rfl rfl)
theorem dX10_sum_21 : decode cX10_sum 21 = .ok (.aload_n 0, 1) := dk_42 (dk_at dksX10_sum_0 21 rfl rfl)
theorem dX10_sum_22 : decode cX10_sum 22 = .ok (.invokevirtual 29, 3) := dk_182 0 29 (dk_at dksX10_sum_1 0 rfl rfl)
theorem dX10_sum_25 : decode cX10_sum 25 = .ok (.bipush 45, 2) := dk_16 45 (dk_at dksX10_sum_1 3 rfl rfl)
theorem dX10_sum_27 : decode cX10_sum 27 = .ok (.if_icmp .ne 30, 3) := dk_160 0 30 (dk_at dksX10_sum_1 5 rfl rfl)
theorem dX10_sum_30 : decode cX10_sum 30 = .ok (.aload_n 0, 1) := dk_42 (dk_at dksX10_sum_1 8 rfl rfl)
theorem dX10_sum_31 : decode cX10_sum 31 = .ok (.invokevirtual 29, 3) := dk_182 0 29 (dk_at dksX10_sum_1 9 rfl rfl)
theorem dX10_sum_34 : decode cX10_sum 34 = .ok (.istore_n 2, 1) := dk_61 (dk_at dksX10_sum_1 12 rfl rfl)
theorem dX10_sum_35 : decode cX10_sum 35 = .ok (.aload_n 0, 1) := dk_42 (dk_at dksX10_sum_1 13 rfl rfl)
theorem dX10_sum_36 : decode cX10_sum 36 = .ok (.dup, 1) := dk_89 (dk_at dksX10_sum_1 14 rfl rfl)
theorem dX10_sum_37 : decode cX10_sum 37 = .ok (.getfield 26, 3) := dk_180 0 26 (dk_at dksX10_sum_1 15 rfl rfl)
theorem dX10_sum_40 : decode cX10_sum 40 = .ok (.iconst 1, 1) := dk_4 (dk_at dksX10_sum_1 18 rfl rfl)
theorem dX10_sum_41 : decode cX10_sum 41 = .ok (.iadd, 1) := dk_96 (dk_at dksX10_sum_1 19 rfl rfl)
theorem dX10_sum_42 : decode cX10_sum 42 = .ok (.putfield 26, 3) := dk_181 0 26 (dk_at dksX10_sum_1 20 rfl rfl)
theorem dX10_sum_45 : decode cX10_sum 45 = .ok (.aload_n 1, 1) := dk_43 (dk_at dksX10_sum_1 23 rfl rfl)
theorem dX10_sum_46 : decode cX10_sum 46 = .ok (.iload_n 2, 1) := dk_28 (dk_at dksX10_sum_2 0 rfl rfl)
theorem dX10_sum_47 : decode cX10_sum 47 = .ok (.aload_n 0, 1) := dk_42 (dk_at dksX10_sum_2 1 rfl rfl)
theorem dX10_sum_48 : decode cX10_sum 48 = .ok (.invokevirtual 139, 3) := dk_182 0 139 (dk_at dksX10_sum_2 2 rfl rfl)
theorem dX10_sum_51 : decode cX10_sum 51 = .ok (.invokevirtual 145, 3) := dk_182 0 145 (dk_at dksX10_sum_2 5 rfl rfl)
theorem dX10_sum_54 : decode cX10_sum 54 = .ok (.goto (-42), 3) := dk_167 255 214 (dk_at dksX10_sum_2 8 rfl rfl)
theorem dX10_sum_57 : decode cX10_sum 57 = .ok (.aload_n 1, 1) := dk_43 (dk_at dksX10_sum_2 11 rfl rfl)
theorem dX10_sum_58 : decode cX10_sum 58 = .ok (.areturn, 1) := dk_176 (dk_at dksX10_sum_2 12 rfl rfl)
abbrev cX10_product : ByteArray := prog_16_method_13_code
def yX10_product : MethodName := ⟨RX10, "product", "()LLotBeliefs$Term;"⟩
def dkwX10_product_1 : List UInt8 := [180, 0, 26, 4, 96, 181, 0, 26, 43, 16, 42, 42, 182, 0, 148, 182, 0, 145, 167, 255, 227, 43, 176]
abbrev dktX10_product_1 : List UInt8 := dkwX10_product_1 ++ []
def dkwX10_product_0 : List UInt8 := [187, 0, 137, 89, 42, 182, 0, 148, 183, 0, 142, 76, 42, 182, 0, 29, 16, 42, 160, 0, 26, 42, 89]
abbrev dktX10_product_0 : List UInt8 := dkwX10_product_0 ++ dktX10_product_1
theorem dksX10_product_0 : cX10_product.data.toList.drop 0 = dktX10_product_0 := by decide +kernel
theorem dksX10_product_1 : cX10_product.data.toList.drop 23 = dktX10_product_1 := dk_seg dksX10_product_0 23 rfl rfl
theorem dX10_product_0 : decode cX10_product 0 = .ok (.new 137, 3) := dk_187 0 137 (dk_at dksX10_product_0 0 rfl rfl)
theorem dX10_product_3 : decode cX10_product 3 = .ok (.dup, 1) := dk_89 (dk_at dksX10_product_0 3 rfl rfl)
theorem dX10_product_4 : decode cX10_product 4 = .ok (.aload_n 0, 1) := dk_42 (dk_at dksX10_product_0 4 rfl rfl)
theorem dX10_product_5 : decode cX10_product 5 = .ok (.invokevirtual 148, 3) := dk_182 0 148 (dk_at dksX10_product_0 5 rfl rfl)
theorem dX10_product_8 : decode cX10_product 8 = .ok (.invokespecial 142, 3) := dk_183 0 142 (dk_at dksX10_product_0 8 rfl rfl)
theorem dX10_product_11 : decode cX10_product 11 = .ok (.astore_n 1, 1) := dk_76 (dk_at dksX10_product_0 11 rfl rfl)
theorem dX10_product_12 : decode cX10_product 12 = .ok (.aload_n 0, 1) := dk_42 (dk_at dksX10_product_0 12 rfl rfl)
theorem dX10_product_13 : decode cX10_product 13 = .ok (.invokevirtual 29, 3) := dk_182 0 29 (dk_at dksX10_product_0 13 rfl rfl)
theorem dX10_product_16 : decode cX10_product 16 = .ok (.bipush 42, 2) := dk_16 42 (dk_at dksX10_product_0 16 rfl rfl)
theorem dX10_product_18 : decode cX10_product 18 = .ok (.if_icmp .ne 26, 3) := dk_160 0 26 (dk_at dksX10_product_0 18 rfl rfl)
theorem dX10_product_21 : decode cX10_product 21 = .ok (.aload_n 0, 1) := dk_42 (dk_at dksX10_product_0 21 rfl rfl)
theorem dX10_product_22 : decode cX10_product 22 = .ok (.dup, 1) := dk_89 (dk_at dksX10_product_0 22 rfl rfl)
theorem dX10_product_23 : decode cX10_product 23 = .ok (.getfield 26, 3) := dk_180 0 26 (dk_at dksX10_product_1 0 rfl rfl)
theorem dX10_product_26 : decode cX10_product 26 = .ok (.iconst 1, 1) := dk_4 (dk_at dksX10_product_1 3 rfl rfl)
theorem dX10_product_27 : decode cX10_product 27 = .ok (.iadd, 1) := dk_96 (dk_at dksX10_product_1 4 rfl rfl)
theorem dX10_product_28 : decode cX10_product 28 = .ok (.putfield 26, 3) := dk_181 0 26 (dk_at dksX10_product_1 5 rfl rfl)
theorem dX10_product_31 : decode cX10_product 31 = .ok (.aload_n 1, 1) := dk_43 (dk_at dksX10_product_1 8 rfl rfl)
theorem dX10_product_32 : decode cX10_product 32 = .ok (.bipush 42, 2) := dk_16 42 (dk_at dksX10_product_1 9 rfl rfl)
theorem dX10_product_34 : decode cX10_product 34 = .ok (.aload_n 0, 1) := dk_42 (dk_at dksX10_product_1 11 rfl rfl)
theorem dX10_product_35 : decode cX10_product 35 = .ok (.invokevirtual 148, 3) := dk_182 0 148 (dk_at dksX10_product_1 12 rfl rfl)
theorem dX10_product_38 : decode cX10_product 38 = .ok (.invokevirtual 145, 3) := dk_182 0 145 (dk_at dksX10_product_1 15 rfl rfl)
theorem dX10_product_41 : decode cX10_product 41 = .ok (.goto (-29), 3) := dk_167 255 227 (dk_at dksX10_product_1 18 rfl rfl)
theorem dX10_product_44 : decode cX10_product 44 = .ok (.aload_n 1, 1) := dk_43 (dk_at dksX10_product_1 21 rfl rfl)
theorem dX10_product_45 : decode cX10_product 45 = .ok (.areturn, 1) := dk_176 (dk_at dksX10_product_1 22 rfl rfl)
abbrev cX10_unit : ByteArray := prog_16_method_14_code
def yX10_unit : MethodName := ⟨RX10, "unit", "()LLotBeliefs$Term;"⟩
def dkwX10_unit_4 : List UInt8 := [187, 0, 162, 89, 29, 183, 0, 164, 176]
abbrev dktX10_unit_4 : List UInt8 := dkwX10_unit_4 ++ []
def dkwX10_unit_3 : List UInt8 := [62, 29, 2, 160, 0, 8, 42, 182, 0, 52, 191, 42, 89, 180, 0, 26, 44, 182, 0, 65, 96, 181, 0, 26]
abbrev dktX10_unit_3 : List UInt8 := dkwX10_unit_3 ++ dktX10_unit_4
def dkwX10_unit_2 : List UInt8 := [163, 0, 15, 187, 0, 151, 89, 42, 182, 0, 153, 183, 0, 156, 176, 42, 182, 0, 56, 77, 44, 184, 0, 158]
abbrev dktX10_unit_2 : List UInt8 := dkwX10_unit_2 ++ dktX10_unit_3
def dkwX10_unit_1 : List UInt8 := [182, 0, 94, 42, 89, 180, 0, 66, 4, 100, 181, 0, 66, 44, 176, 27, 16, 48, 161, 0, 21, 27, 16, 57]
abbrev dktX10_unit_1 : List UInt8 := dkwX10_unit_1 ++ dktX10_unit_2
def dkwX10_unit_0 : List UInt8 := [42, 182, 0, 29, 60, 27, 16, 40, 160, 0, 31, 42, 4, 182, 0, 120, 42, 182, 0, 128, 77, 42, 16, 41]
abbrev dktX10_unit_0 : List UInt8 := dkwX10_unit_0 ++ dktX10_unit_1
theorem dksX10_unit_0 : cX10_unit.data.toList.drop 0 = dktX10_unit_0 := by decide +kernel
theorem dksX10_unit_1 : cX10_unit.data.toList.drop 24 = dktX10_unit_1 := dk_seg dksX10_unit_0 24 rfl rfl
theorem dksX10_unit_2 : cX10_unit.data.toList.drop 48 = dktX10_unit_2 := dk_seg dksX10_unit_1 24 rfl rfl
theorem dksX10_unit_3 : cX10_unit.data.toList.drop 72 = dktX10_unit_3 := dk_seg dksX10_unit_2 24 rfl rfl
theorem dksX10_unit_4 : cX10_unit.data.toList.drop 96 = dktX10_unit_4 := dk_seg dksX10_unit_3 24 rfl rfl
theorem dX10_unit_0 : decode cX10_unit 0 = .ok (.aload_n 0, 1) := dk_42 (dk_at dksX10_unit_0 0 rfl rfl)
theorem dX10_unit_1 : decode cX10_unit 1 = .ok (.invokevirtual 29, 3) := dk_182 0 29 (dk_at dksX10_unit_0 1 rfl rfl)
theorem dX10_unit_4 : decode cX10_unit 4 = .ok (.istore_n 1, 1) := dk_60 (dk_at dksX10_unit_0 4 rfl rfl)
theorem dX10_unit_5 : decode cX10_unit 5 = .ok (.iload_n 1, 1) := dk_27 (dk_at dksX10_unit_0 5 rfl rfl)
theorem dX10_unit_6 : decode cX10_unit 6 = .ok (.bipush 40, 2) := dk_16 40 (dk_at dksX10_unit_0 6 rfl rfl)
theorem dX10_unit_8 : decode cX10_unit 8 = .ok (.if_icmp .ne 31, 3) := dk_160 0 31 (dk_at dksX10_unit_0 8 rfl rfl)
theorem dX10_unit_11 : decode cX10_unit 11 = .ok (.aload_n 0, 1) := dk_42 (dk_at dksX10_unit_0 11 rfl rfl)
theorem dX10_unit_12 : decode cX10_unit 12 = .ok (.iconst 1, 1) := dk_4 (dk_at dksX10_unit_0 12 rfl rfl)
theorem dX10_unit_13 : decode cX10_unit 13 = .ok (.invokevirtual 120, 3) := dk_182 0 120 (dk_at dksX10_unit_0 13 rfl rfl)
theorem dX10_unit_16 : decode cX10_unit 16 = .ok (.aload_n 0, 1) := dk_42 (dk_at dksX10_unit_0 16 rfl rfl)
theorem dX10_unit_17 : decode cX10_unit 17 = .ok (.invokevirtual 128, 3) := dk_182 0 128 (dk_at dksX10_unit_0 17 rfl rfl)
theorem dX10_unit_20 : decode cX10_unit 20 = .ok (.astore_n 2, 1) := dk_77 (dk_at dksX10_unit_0 20 rfl rfl)
theorem dX10_unit_21 : decode cX10_unit 21 = .ok (.aload_n 0, 1) := dk_42 (dk_at dksX10_unit_0 21 rfl rfl)
theorem dX10_unit_22 : decode cX10_unit 22 = .ok (.bipush 41, 2) := dk_16 41 (dk_at dksX10_unit_0 22 rfl rfl)
theorem dX10_unit_24 : decode cX10_unit 24 = .ok (.invokevirtual 94, 3) := dk_182 0 94 (dk_at dksX10_unit_1 0 rfl rfl)
theorem dX10_unit_27 : decode cX10_unit 27 = .ok (.aload_n 0, 1) := dk_42 (dk_at dksX10_unit_1 3 rfl rfl)
theorem dX10_unit_28 : decode cX10_unit 28 = .ok (.dup, 1) := dk_89 (dk_at dksX10_unit_1 4 rfl rfl)
theorem dX10_unit_29 : decode cX10_unit 29 = .ok (.getfield 66, 3) := dk_180 0 66 (dk_at dksX10_unit_1 5 rfl rfl)
theorem dX10_unit_32 : decode cX10_unit 32 = .ok (.iconst 1, 1) := dk_4 (dk_at dksX10_unit_1 8 rfl rfl)
theorem dX10_unit_33 : decode cX10_unit 33 = .ok (.isub, 1) := dk_100 (dk_at dksX10_unit_1 9 rfl rfl)
theorem dX10_unit_34 : decode cX10_unit 34 = .ok (.putfield 66, 3) := dk_181 0 66 (dk_at dksX10_unit_1 10 rfl rfl)
theorem dX10_unit_37 : decode cX10_unit 37 = .ok (.aload_n 2, 1) := dk_44 (dk_at dksX10_unit_1 13 rfl rfl)
theorem dX10_unit_38 : decode cX10_unit 38 = .ok (.areturn, 1) := dk_176 (dk_at dksX10_unit_1 14 rfl rfl)
theorem dX10_unit_39 : decode cX10_unit 39 = .ok (.iload_n 1, 1) := dk_27 (dk_at dksX10_unit_1 15 rfl rfl)
theorem dX10_unit_40 : decode cX10_unit 40 = .ok (.bipush 48, 2) := dk_16 48 (dk_at dksX10_unit_1 16 rfl rfl)
theorem dX10_unit_42 : decode cX10_unit 42 = .ok (.if_icmp .lt 21, 3) := dk_161 0 21 (dk_at dksX10_unit_1 18 rfl rfl)
theorem dX10_unit_45 : decode cX10_unit 45 = .ok (.iload_n 1, 1) := dk_27 (dk_at dksX10_unit_1 21 rfl rfl)
theorem dX10_unit_46 : decode cX10_unit 46 = .ok (.bipush 57, 2) := dk_16 57 (dk_at dksX10_unit_1 22 rfl rfl)
theorem dX10_unit_48 : decode cX10_unit 48 = .ok (.if_icmp .gt 15, 3) := dk_163 0 15 (dk_at dksX10_unit_2 0 rfl rfl)
theorem dX10_unit_51 : decode cX10_unit 51 = .ok (.new 151, 3) := dk_187 0 151 (dk_at dksX10_unit_2 3 rfl rfl)
theorem dX10_unit_54 : decode cX10_unit 54 = .ok (.dup, 1) := dk_89 (dk_at dksX10_unit_2 6 rfl rfl)
theorem dX10_unit_55 : decode cX10_unit 55 = .ok (.aload_n 0, 1) := dk_42 (dk_at dksX10_unit_2 7 rfl rfl)
theorem dX10_unit_56 : decode cX10_unit 56 = .ok (.invokevirtual 153, 3) := dk_182 0 153 (dk_at dksX10_unit_2 8 rfl rfl)
theorem dX10_unit_59 : decode cX10_unit 59 = .ok (.invokespecial 156, 3) := dk_183 0 156 (dk_at dksX10_unit_2 11 rfl rfl)
theorem dX10_unit_62 : decode cX10_unit 62 = .ok (.areturn, 1) := dk_176 (dk_at dksX10_unit_2 14 rfl rfl)
theorem dX10_unit_63 : decode cX10_unit 63 = .ok (.aload_n 0, 1) := dk_42 (dk_at dksX10_unit_2 15 rfl rfl)
theorem dX10_unit_64 : decode cX10_unit 64 = .ok (.invokevirtual 56, 3) := dk_182 0 56 (dk_at dksX10_unit_2 16 rfl rfl)
theorem dX10_unit_67 : decode cX10_unit 67 = .ok (.astore_n 2, 1) := dk_77 (dk_at dksX10_unit_2 19 rfl rfl)
theorem dX10_unit_68 : decode cX10_unit 68 = .ok (.aload_n 2, 1) := dk_44 (dk_at dksX10_unit_2 20 rfl rfl)
theorem dX10_unit_69 : decode cX10_unit 69 = .ok (.invokestatic 158, 3) := dk_184 0 158 (dk_at dksX10_unit_2 21 rfl rfl)
theorem dX10_unit_72 : decode cX10_unit 72 = .ok (.istore_n 3, 1) := dk_62 (dk_at dksX10_unit_3 0 rfl rfl)
theorem dX10_unit_73 : decode cX10_unit 73 = .ok (.iload_n 3, 1) := dk_29 (dk_at dksX10_unit_3 1 rfl rfl)
theorem dX10_unit_74 : decode cX10_unit 74 = .ok (.iconst (-1), 1) := dk_2 (dk_at dksX10_unit_3 2 rfl rfl)
theorem dX10_unit_75 : decode cX10_unit 75 = .ok (.if_icmp .ne 8, 3) := dk_160 0 8 (dk_at dksX10_unit_3 3 rfl rfl)
theorem dX10_unit_78 : decode cX10_unit 78 = .ok (.aload_n 0, 1) := dk_42 (dk_at dksX10_unit_3 6 rfl rfl)
theorem dX10_unit_79 : decode cX10_unit 79 = .ok (.invokevirtual 52, 3) := dk_182 0 52 (dk_at dksX10_unit_3 7 rfl rfl)
theorem dX10_unit_82 : decode cX10_unit 82 = .ok (.athrow, 1) := dk_191 (dk_at dksX10_unit_3 10 rfl rfl)
theorem dX10_unit_83 : decode cX10_unit 83 = .ok (.aload_n 0, 1) := dk_42 (dk_at dksX10_unit_3 11 rfl rfl)
theorem dX10_unit_84 : decode cX10_unit 84 = .ok (.dup, 1) := dk_89 (dk_at dksX10_unit_3 12 rfl rfl)
theorem dX10_unit_85 : decode cX10_unit 85 = .ok (.getfield 26, 3) := dk_180 0 26 (dk_at dksX10_unit_3 13 rfl rfl)
theorem dX10_unit_88 : decode cX10_unit 88 = .ok (.aload_n 2, 1) := dk_44 (dk_at dksX10_unit_3 16 rfl rfl)
theorem dX10_unit_89 : decode cX10_unit 89 = .ok (.invokevirtual 65, 3) := dk_182 0 65 (dk_at dksX10_unit_3 17 rfl rfl)
theorem dX10_unit_92 : decode cX10_unit 92 = .ok (.iadd, 1) := dk_96 (dk_at dksX10_unit_3 20 rfl rfl)
theorem dX10_unit_93 : decode cX10_unit 93 = .ok (.putfield 26, 3) := dk_181 0 26 (dk_at dksX10_unit_3 21 rfl rfl)
theorem dX10_unit_96 : decode cX10_unit 96 = .ok (.new 162, 3) := dk_187 0 162 (dk_at dksX10_unit_4 0 rfl rfl)
theorem dX10_unit_99 : decode cX10_unit 99 = .ok (.dup, 1) := dk_89 (dk_at dksX10_unit_4 3 rfl rfl)
theorem dX10_unit_100 : decode cX10_unit 100 = .ok (.iload_n 3, 1) := dk_29 (dk_at dksX10_unit_4 4 rfl rfl)
theorem dX10_unit_101 : decode cX10_unit 101 = .ok (.invokespecial 164, 3) := dk_183 0 164 (dk_at dksX10_unit_4 5 rfl rfl)
theorem dX10_unit_104 : decode cX10_unit 104 = .ok (.areturn, 1) := dk_176 (dk_at dksX10_unit_4 8 rfl rfl)
abbrev cX10_number : ByteArray := prog_16_method_15_code
def yX10_number : MethodName := ⟨RX10, "number", "()I"⟩
def dkwX10_number_4 : List UInt8 := [5, 27, 183, 0, 49, 191, 28, 172]
abbrev dktX10_number_4 : List UInt8 := dkwX10_number_4 ++ []
def dkwX10_number_3 : List UInt8 := [42, 89, 180, 0, 26, 4, 96, 181, 0, 26, 167, 255, 183, 28, 17, 3, 231, 164, 0, 13, 187, 0, 47, 89]
abbrev dktX10_number_3 : List UInt8 := dkwX10_number_3 ++ dktX10_number_4
def dkwX10_number_2 : List UInt8 := [16, 10, 28, 104, 42, 180, 0, 18, 42, 180, 0, 26, 51, 96, 16, 48, 100, 17, 3, 232, 184, 0, 165, 61]
abbrev dktX10_number_2 : List UInt8 := dkwX10_number_2 ++ dktX10_number_3
def dkwX10_number_1 : List UInt8 := [180, 0, 26, 51, 16, 48, 161, 0, 54, 42, 180, 0, 18, 42, 180, 0, 26, 51, 16, 57, 163, 0, 40]
abbrev dktX10_number_1 : List UInt8 := dkwX10_number_1 ++ dktX10_number_2
def dkwX10_number_0 : List UInt8 := [42, 180, 0, 26, 60, 3, 61, 42, 180, 0, 26, 42, 180, 0, 22, 162, 0, 68, 42, 180, 0, 18, 42]
abbrev dktX10_number_0 : List UInt8 := dkwX10_number_0 ++ dktX10_number_1
theorem dksX10_number_0 : cX10_number.data.toList.drop 0 = dktX10_number_0 := by decide +kernel
theorem dksX10_number_1 : cX10_number.data.toList.drop 23 = dktX10_number_1 := dk_seg dksX10_number_0 23 rfl rfl
theorem dksX10_number_2 : cX10_number.data.toList.drop 46 = dktX10_number_2 := dk_seg dksX10_number_1 23 rfl rfl
theorem dksX10_number_3 : cX10_number.data.toList.drop 70 = dktX10_number_3 := dk_seg dksX10_number_2 24 rfl rfl
theorem dksX10_number_4 : cX10_number.data.toList.drop 94 = dktX10_number_4 := dk_seg dksX10_number_3 24 rfl rfl
theorem dX10_number_0 : decode cX10_number 0 = .ok (.aload_n 0, 1) := dk_42 (dk_at dksX10_number_0 0 rfl rfl)
theorem dX10_number_1 : decode cX10_number 1 = .ok (.getfield 26, 3) := dk_180 0 26 (dk_at dksX10_number_0 1 rfl rfl)
theorem dX10_number_4 : decode cX10_number 4 = .ok (.istore_n 1, 1) := dk_60 (dk_at dksX10_number_0 4 rfl rfl)
theorem dX10_number_5 : decode cX10_number 5 = .ok (.iconst 0, 1) := dk_3 (dk_at dksX10_number_0 5 rfl rfl)
theorem dX10_number_6 : decode cX10_number 6 = .ok (.istore_n 2, 1) := dk_61 (dk_at dksX10_number_0 6 rfl rfl)
theorem dX10_number_7 : decode cX10_number 7 = .ok (.aload_n 0, 1) := dk_42 (dk_at dksX10_number_0 7 rfl rfl)
theorem dX10_number_8 : decode cX10_number 8 = .ok (.getfield 26, 3) := dk_180 0 26 (dk_at dksX10_number_0 8 rfl rfl)
theorem dX10_number_11 : decode cX10_number 11 = .ok (.aload_n 0, 1) := dk_42 (dk_at dksX10_number_0 11 rfl rfl)
theorem dX10_number_12 : decode cX10_number 12 = .ok (.getfield 22, 3) := dk_180 0 22 (dk_at dksX10_number_0 12 rfl rfl)
theorem dX10_number_15 : decode cX10_number 15 = .ok (.if_icmp .ge 68, 3) := dk_162 0 68 (dk_at dksX10_number_0 15 rfl rfl)
theorem dX10_number_18 : decode cX10_number 18 = .ok (.aload_n 0, 1) := dk_42 (dk_at dksX10_number_0 18 rfl rfl)
theorem dX10_number_19 : decode cX10_number 19 = .ok (.getfield 18, 3) := dk_180 0 18 (dk_at dksX10_number_0 19 rfl rfl)
theorem dX10_number_22 : decode cX10_number 22 = .ok (.aload_n 0, 1) := dk_42 (dk_at dksX10_number_0 22 rfl rfl)
theorem dX10_number_23 : decode cX10_number 23 = .ok (.getfield 26, 3) := dk_180 0 26 (dk_at dksX10_number_1 0 rfl rfl)
theorem dX10_number_26 : decode cX10_number 26 = .ok (.baload, 1) := dk_51 (dk_at dksX10_number_1 3 rfl rfl)
theorem dX10_number_27 : decode cX10_number 27 = .ok (.bipush 48, 2) := dk_16 48 (dk_at dksX10_number_1 4 rfl rfl)
theorem dX10_number_29 : decode cX10_number 29 = .ok (.if_icmp .lt 54, 3) := dk_161 0 54 (dk_at dksX10_number_1 6 rfl rfl)
theorem dX10_number_32 : decode cX10_number 32 = .ok (.aload_n 0, 1) := dk_42 (dk_at dksX10_number_1 9 rfl rfl)
theorem dX10_number_33 : decode cX10_number 33 = .ok (.getfield 18, 3) := dk_180 0 18 (dk_at dksX10_number_1 10 rfl rfl)
theorem dX10_number_36 : decode cX10_number 36 = .ok (.aload_n 0, 1) := dk_42 (dk_at dksX10_number_1 13 rfl rfl)
theorem dX10_number_37 : decode cX10_number 37 = .ok (.getfield 26, 3) := dk_180 0 26 (dk_at dksX10_number_1 14 rfl rfl)
theorem dX10_number_40 : decode cX10_number 40 = .ok (.baload, 1) := dk_51 (dk_at dksX10_number_1 17 rfl rfl)
theorem dX10_number_41 : decode cX10_number 41 = .ok (.bipush 57, 2) := dk_16 57 (dk_at dksX10_number_1 18 rfl rfl)
theorem dX10_number_43 : decode cX10_number 43 = .ok (.if_icmp .gt 40, 3) := dk_163 0 40 (dk_at dksX10_number_1 20 rfl rfl)
theorem dX10_number_46 : decode cX10_number 46 = .ok (.bipush 10, 2) := dk_16 10 (dk_at dksX10_number_2 0 rfl rfl)
theorem dX10_number_48 : decode cX10_number 48 = .ok (.iload_n 2, 1) := dk_28 (dk_at dksX10_number_2 2 rfl rfl)
theorem dX10_number_49 : decode cX10_number 49 = .ok (.imul, 1) := dk_104 (dk_at dksX10_number_2 3 rfl rfl)
theorem dX10_number_50 : decode cX10_number 50 = .ok (.aload_n 0, 1) := dk_42 (dk_at dksX10_number_2 4 rfl rfl)
theorem dX10_number_51 : decode cX10_number 51 = .ok (.getfield 18, 3) := dk_180 0 18 (dk_at dksX10_number_2 5 rfl rfl)
theorem dX10_number_54 : decode cX10_number 54 = .ok (.aload_n 0, 1) := dk_42 (dk_at dksX10_number_2 8 rfl rfl)
theorem dX10_number_55 : decode cX10_number 55 = .ok (.getfield 26, 3) := dk_180 0 26 (dk_at dksX10_number_2 9 rfl rfl)
theorem dX10_number_58 : decode cX10_number 58 = .ok (.baload, 1) := dk_51 (dk_at dksX10_number_2 12 rfl rfl)
theorem dX10_number_59 : decode cX10_number 59 = .ok (.iadd, 1) := dk_96 (dk_at dksX10_number_2 13 rfl rfl)
theorem dX10_number_60 : decode cX10_number 60 = .ok (.bipush 48, 2) := dk_16 48 (dk_at dksX10_number_2 14 rfl rfl)
theorem dX10_number_62 : decode cX10_number 62 = .ok (.isub, 1) := dk_100 (dk_at dksX10_number_2 16 rfl rfl)
theorem dX10_number_63 : decode cX10_number 63 = .ok (.sipush 1000, 3) := dk_17 3 232 (dk_at dksX10_number_2 17 rfl rfl)
theorem dX10_number_66 : decode cX10_number 66 = .ok (.invokestatic 165, 3) := dk_184 0 165 (dk_at dksX10_number_2 20 rfl rfl)
theorem dX10_number_69 : decode cX10_number 69 = .ok (.istore_n 2, 1) := dk_61 (dk_at dksX10_number_2 23 rfl rfl)
theorem dX10_number_70 : decode cX10_number 70 = .ok (.aload_n 0, 1) := dk_42 (dk_at dksX10_number_3 0 rfl rfl)
theorem dX10_number_71 : decode cX10_number 71 = .ok (.dup, 1) := dk_89 (dk_at dksX10_number_3 1 rfl rfl)
theorem dX10_number_72 : decode cX10_number 72 = .ok (.getfield 26, 3) := dk_180 0 26 (dk_at dksX10_number_3 2 rfl rfl)
theorem dX10_number_75 : decode cX10_number 75 = .ok (.iconst 1, 1) := dk_4 (dk_at dksX10_number_3 5 rfl rfl)
theorem dX10_number_76 : decode cX10_number 76 = .ok (.iadd, 1) := dk_96 (dk_at dksX10_number_3 6 rfl rfl)
theorem dX10_number_77 : decode cX10_number 77 = .ok (.putfield 26, 3) := dk_181 0 26 (dk_at dksX10_number_3 7 rfl rfl)
theorem dX10_number_80 : decode cX10_number 80 = .ok (.goto (-73), 3) := dk_167 255 183 (dk_at dksX10_number_3 10 rfl rfl)
theorem dX10_number_83 : decode cX10_number 83 = .ok (.iload_n 2, 1) := dk_28 (dk_at dksX10_number_3 13 rfl rfl)
theorem dX10_number_84 : decode cX10_number 84 = .ok (.sipush 999, 3) := dk_17 3 231 (dk_at dksX10_number_3 14 rfl rfl)
theorem dX10_number_87 : decode cX10_number 87 = .ok (.if_icmp .le 13, 3) := dk_164 0 13 (dk_at dksX10_number_3 17 rfl rfl)
theorem dX10_number_90 : decode cX10_number 90 = .ok (.new 47, 3) := dk_187 0 47 (dk_at dksX10_number_3 20 rfl rfl)
theorem dX10_number_93 : decode cX10_number 93 = .ok (.dup, 1) := dk_89 (dk_at dksX10_number_3 23 rfl rfl)
theorem dX10_number_94 : decode cX10_number 94 = .ok (.iconst 2, 1) := dk_5 (dk_at dksX10_number_4 0 rfl rfl)
theorem dX10_number_95 : decode cX10_number 95 = .ok (.iload_n 1, 1) := dk_27 (dk_at dksX10_number_4 1 rfl rfl)
theorem dX10_number_96 : decode cX10_number 96 = .ok (.invokespecial 49, 3) := dk_183 0 49 (dk_at dksX10_number_4 2 rfl rfl)
theorem dX10_number_99 : decode cX10_number 99 = .ok (.athrow, 1) := dk_191 (dk_at dksX10_number_4 5 rfl rfl)
theorem dX10_number_100 : decode cX10_number 100 = .ok (.iload_n 2, 1) := dk_28 (dk_at dksX10_number_4 6 rfl rfl)
theorem dX10_number_101 : decode cX10_number 101 = .ok (.ireturn, 1) := dk_172 (dk_at dksX10_number_4 7 rfl rfl)
abbrev cX10_factOf : ByteArray := prog_16_method_16_code
def yX10_factOf : MethodName := ⟨RX10, "factOf", "(Ljava/lang/String;)I"⟩
def dkwX10_factOf_11 : List UInt8 := [2, 172]
abbrev dktX10_factOf_11 : List UInt8 := dkwX10_factOf_11 ++ []
def dkwX10_factOf_10 : List UInt8 := [3, 172, 4, 172, 5, 172, 6, 172, 7, 172, 8, 172, 16, 6, 172, 16, 7, 172, 16, 8, 172, 16, 9, 172]
abbrev dktX10_factOf_10 : List UInt8 := dkwX10_factOf_10 ++ dktX10_factOf_11
def dkwX10_factOf_9 : List UInt8 := [170, 0, 0, 0, 0, 78, 0, 0, 0, 0, 0, 0, 0, 9, 0, 0, 0, 54, 0, 0, 0, 56, 0, 0, 0, 58, 0, 0, 0, 60, 0, 0, 0, 62, 0, 0, 0, 64, 0, 0, 0, 66, 0, 0, 0, 69, 0, 0, 0, 72, 0, 0, 0, 75]
abbrev dktX10_factOf_9 : List UInt8 := dkwX10_factOf_9 ++ dktX10_factOf_10
def dkwX10_factOf_8 : List UInt8 := [28]
abbrev dktX10_factOf_8 : List UInt8 := dkwX10_factOf_8 ++ dktX10_factOf_9
def dkwX10_factOf_7 : List UInt8 := [182, 0, 59, 153, 0, 21, 16, 8, 61, 167, 0, 15, 43, 18, 192, 182, 0, 59, 153, 0, 6, 16, 9, 61]
abbrev dktX10_factOf_7 : List UInt8 := dkwX10_factOf_7 ++ dktX10_factOf_8
def dkwX10_factOf_6 : List UInt8 := [61, 167, 0, 45, 43, 18, 188, 182, 0, 59, 153, 0, 36, 16, 7, 61, 167, 0, 30, 43, 18, 190]
abbrev dktX10_factOf_6 : List UInt8 := dkwX10_factOf_6 ++ dktX10_factOf_7
def dkwX10_factOf_5 : List UInt8 := [18, 184, 182, 0, 59, 153, 0, 65, 8, 61, 167, 0, 60, 43, 18, 186, 182, 0, 59, 153, 0, 51, 16, 6]
abbrev dktX10_factOf_5 : List UInt8 := dkwX10_factOf_5 ++ dktX10_factOf_6
def dkwX10_factOf_4 : List UInt8 := [153, 0, 93, 6, 61, 167, 0, 88, 43, 18, 182, 182, 0, 59, 153, 0, 79, 7, 61, 167, 0, 74, 43]
abbrev dktX10_factOf_4 : List UInt8 := dkwX10_factOf_4 ++ dktX10_factOf_5
def dkwX10_factOf_3 : List UInt8 := [61, 167, 0, 116, 43, 18, 178, 182, 0, 59, 153, 0, 107, 5, 61, 167, 0, 102, 43, 18, 180, 182, 0, 59]
abbrev dktX10_factOf_3 : List UInt8 := dkwX10_factOf_3 ++ dktX10_factOf_4
def dkwX10_factOf_2 : List UInt8 := [43, 18, 174, 182, 0, 59, 153, 0, 135, 3, 61, 167, 0, 130, 43, 18, 176, 182, 0, 59, 153, 0, 121, 4]
abbrev dktX10_factOf_2 : List UInt8 := dkwX10_factOf_2 ++ dktX10_factOf_3
def dkwX10_factOf_1 : List UInt8 := [171, 0, 0, 0, 0, 0, 0, 233, 0, 0, 0, 10, 202, 36, 172, 101, 0, 0, 0, 221, 0, 1, 120, 255, 0, 0, 0, 92, 0, 48, 207, 53, 0, 0, 0, 191, 0, 50, 160, 7, 0, 0, 0, 206, 0, 51, 138, 206, 0, 0, 0, 162, 0, 51, 138, 211, 0, 0, 0, 134, 0, 52, 23, 39, 0, 0, 0, 148, 0, 52, 23, 44, 0, 0, 0, 120, 0, 55, 159, 244, 0, 0, 0, 176, 5, 240, 118, 68, 0, 0, 0, 106]
abbrev dktX10_factOf_1 : List UInt8 := dkwX10_factOf_1 ++ dktX10_factOf_2
def dkwX10_factOf_0 : List UInt8 := [42, 76, 2, 61, 43, 182, 0, 171]
abbrev dktX10_factOf_0 : List UInt8 := dkwX10_factOf_0 ++ dktX10_factOf_1
theorem dksX10_factOf_0 : cX10_factOf.data.toList.drop 0 = dktX10_factOf_0 := by decide +kernel
theorem dksX10_factOf_1 : cX10_factOf.data.toList.drop 8 = dktX10_factOf_1 := dk_seg dksX10_factOf_0 8 rfl rfl
theorem dksX10_factOf_2 : cX10_factOf.data.toList.drop 100 = dktX10_factOf_2 := dk_seg dksX10_factOf_1 92 rfl rfl
theorem dksX10_factOf_3 : cX10_factOf.data.toList.drop 124 = dktX10_factOf_3 := dk_seg dksX10_factOf_2 24 rfl rfl
theorem dksX10_factOf_4 : cX10_factOf.data.toList.drop 148 = dktX10_factOf_4 := dk_seg dksX10_factOf_3 24 rfl rfl
theorem dksX10_factOf_5 : cX10_factOf.data.toList.drop 171 = dktX10_factOf_5 := dk_seg dksX10_factOf_4 23 rfl rfl
theorem dksX10_factOf_6 : cX10_factOf.data.toList.drop 195 = dktX10_factOf_6 := dk_seg dksX10_factOf_5 24 rfl rfl
theorem dksX10_factOf_7 : cX10_factOf.data.toList.drop 217 = dktX10_factOf_7 := dk_seg dksX10_factOf_6 22 rfl rfl
theorem dksX10_factOf_8 : cX10_factOf.data.toList.drop 241 = dktX10_factOf_8 := dk_seg dksX10_factOf_7 24 rfl rfl
theorem dksX10_factOf_9 : cX10_factOf.data.toList.drop 242 = dktX10_factOf_9 := dk_seg dksX10_factOf_8 1 rfl rfl
theorem dksX10_factOf_10 : cX10_factOf.data.toList.drop 296 = dktX10_factOf_10 := dk_seg dksX10_factOf_9 54 rfl rfl
theorem dksX10_factOf_11 : cX10_factOf.data.toList.drop 320 = dktX10_factOf_11 := dk_seg dksX10_factOf_10 24 rfl rfl
theorem dX10_factOf_0 : decode cX10_factOf 0 = .ok (.aload_n 0, 1) := dk_42 (dk_at dksX10_factOf_0 0 rfl rfl)
theorem dX10_factOf_1 : decode cX10_factOf 1 = .ok (.astore_n 1, 1) := dk_76 (dk_at dksX10_factOf_0 1 rfl rfl)
theorem dX10_factOf_2 : decode cX10_factOf 2 = .ok (.iconst (-1), 1) := dk_2 (dk_at dksX10_factOf_0 2 rfl rfl)
theorem dX10_factOf_3 : decode cX10_factOf 3 = .ok (.istore_n 2, 1) := dk_61 (dk_at dksX10_factOf_0 3 rfl rfl)
theorem dX10_factOf_4 : decode cX10_factOf 4 = .ok (.aload_n 1, 1) := dk_43 (dk_at dksX10_factOf_0 4 rfl rfl)
theorem dX10_factOf_5 : decode cX10_factOf 5 = .ok (.invokevirtual 171, 3) := dk_182 0 171 (dk_at dksX10_factOf_0 5 rfl rfl)
theorem dX10_factOf_8 : decode cX10_factOf 8 = .ok (.lookupswitch 233 #[(-903566235, 221), (96511, 92), (3198773, 191), (3317767, 206), (3377870, 162), (3377875, 134), (3413799, 148), (3413804, 120), (3645428, 176), (99644996, 106)], 92) := by decide +kernel
theorem dX10_factOf_100 : decode cX10_factOf 100 = .ok (.aload_n 1, 1) := dk_43 (dk_at dksX10_factOf_2 0 rfl rfl)
theorem dX10_factOf_101 : decode cX10_factOf 101 = .ok (.ldc 174, 2) := dk_18 174 (dk_at dksX10_factOf_2 1 rfl rfl)
theorem dX10_factOf_103 : decode cX10_factOf 103 = .ok (.invokevirtual 59, 3) := dk_182 0 59 (dk_at dksX10_factOf_2 3 rfl rfl)
theorem dX10_factOf_106 : decode cX10_factOf 106 = .ok (.ifCond .eq 135, 3) := dk_153 0 135 (dk_at dksX10_factOf_2 6 rfl rfl)
theorem dX10_factOf_109 : decode cX10_factOf 109 = .ok (.iconst 0, 1) := dk_3 (dk_at dksX10_factOf_2 9 rfl rfl)
theorem dX10_factOf_110 : decode cX10_factOf 110 = .ok (.istore_n 2, 1) := dk_61 (dk_at dksX10_factOf_2 10 rfl rfl)
theorem dX10_factOf_111 : decode cX10_factOf 111 = .ok (.goto 130, 3) := dk_167 0 130 (dk_at dksX10_factOf_2 11 rfl rfl)
theorem dX10_factOf_114 : decode cX10_factOf 114 = .ok (.aload_n 1, 1) := dk_43 (dk_at dksX10_factOf_2 14 rfl rfl)
theorem dX10_factOf_115 : decode cX10_factOf 115 = .ok (.ldc 176, 2) := dk_18 176 (dk_at dksX10_factOf_2 15 rfl rfl)
theorem dX10_factOf_117 : decode cX10_factOf 117 = .ok (.invokevirtual 59, 3) := dk_182 0 59 (dk_at dksX10_factOf_2 17 rfl rfl)
theorem dX10_factOf_120 : decode cX10_factOf 120 = .ok (.ifCond .eq 121, 3) := dk_153 0 121 (dk_at dksX10_factOf_2 20 rfl rfl)
theorem dX10_factOf_123 : decode cX10_factOf 123 = .ok (.iconst 1, 1) := dk_4 (dk_at dksX10_factOf_2 23 rfl rfl)
theorem dX10_factOf_124 : decode cX10_factOf 124 = .ok (.istore_n 2, 1) := dk_61 (dk_at dksX10_factOf_3 0 rfl rfl)
theorem dX10_factOf_125 : decode cX10_factOf 125 = .ok (.goto 116, 3) := dk_167 0 116 (dk_at dksX10_factOf_3 1 rfl rfl)
theorem dX10_factOf_128 : decode cX10_factOf 128 = .ok (.aload_n 1, 1) := dk_43 (dk_at dksX10_factOf_3 4 rfl rfl)
theorem dX10_factOf_129 : decode cX10_factOf 129 = .ok (.ldc 178, 2) := dk_18 178 (dk_at dksX10_factOf_3 5 rfl rfl)
theorem dX10_factOf_131 : decode cX10_factOf 131 = .ok (.invokevirtual 59, 3) := dk_182 0 59 (dk_at dksX10_factOf_3 7 rfl rfl)
theorem dX10_factOf_134 : decode cX10_factOf 134 = .ok (.ifCond .eq 107, 3) := dk_153 0 107 (dk_at dksX10_factOf_3 10 rfl rfl)
theorem dX10_factOf_137 : decode cX10_factOf 137 = .ok (.iconst 2, 1) := dk_5 (dk_at dksX10_factOf_3 13 rfl rfl)
theorem dX10_factOf_138 : decode cX10_factOf 138 = .ok (.istore_n 2, 1) := dk_61 (dk_at dksX10_factOf_3 14 rfl rfl)
theorem dX10_factOf_139 : decode cX10_factOf 139 = .ok (.goto 102, 3) := dk_167 0 102 (dk_at dksX10_factOf_3 15 rfl rfl)
theorem dX10_factOf_142 : decode cX10_factOf 142 = .ok (.aload_n 1, 1) := dk_43 (dk_at dksX10_factOf_3 18 rfl rfl)
theorem dX10_factOf_143 : decode cX10_factOf 143 = .ok (.ldc 180, 2) := dk_18 180 (dk_at dksX10_factOf_3 19 rfl rfl)
theorem dX10_factOf_145 : decode cX10_factOf 145 = .ok (.invokevirtual 59, 3) := dk_182 0 59 (dk_at dksX10_factOf_3 21 rfl rfl)
theorem dX10_factOf_148 : decode cX10_factOf 148 = .ok (.ifCond .eq 93, 3) := dk_153 0 93 (dk_at dksX10_factOf_4 0 rfl rfl)
theorem dX10_factOf_151 : decode cX10_factOf 151 = .ok (.iconst 3, 1) := dk_6 (dk_at dksX10_factOf_4 3 rfl rfl)
theorem dX10_factOf_152 : decode cX10_factOf 152 = .ok (.istore_n 2, 1) := dk_61 (dk_at dksX10_factOf_4 4 rfl rfl)
theorem dX10_factOf_153 : decode cX10_factOf 153 = .ok (.goto 88, 3) := dk_167 0 88 (dk_at dksX10_factOf_4 5 rfl rfl)
theorem dX10_factOf_156 : decode cX10_factOf 156 = .ok (.aload_n 1, 1) := dk_43 (dk_at dksX10_factOf_4 8 rfl rfl)
theorem dX10_factOf_157 : decode cX10_factOf 157 = .ok (.ldc 182, 2) := dk_18 182 (dk_at dksX10_factOf_4 9 rfl rfl)
theorem dX10_factOf_159 : decode cX10_factOf 159 = .ok (.invokevirtual 59, 3) := dk_182 0 59 (dk_at dksX10_factOf_4 11 rfl rfl)
theorem dX10_factOf_162 : decode cX10_factOf 162 = .ok (.ifCond .eq 79, 3) := dk_153 0 79 (dk_at dksX10_factOf_4 14 rfl rfl)
theorem dX10_factOf_165 : decode cX10_factOf 165 = .ok (.iconst 4, 1) := dk_7 (dk_at dksX10_factOf_4 17 rfl rfl)
theorem dX10_factOf_166 : decode cX10_factOf 166 = .ok (.istore_n 2, 1) := dk_61 (dk_at dksX10_factOf_4 18 rfl rfl)
theorem dX10_factOf_167 : decode cX10_factOf 167 = .ok (.goto 74, 3) := dk_167 0 74 (dk_at dksX10_factOf_4 19 rfl rfl)
theorem dX10_factOf_170 : decode cX10_factOf 170 = .ok (.aload_n 1, 1) := dk_43 (dk_at dksX10_factOf_4 22 rfl rfl)
theorem dX10_factOf_171 : decode cX10_factOf 171 = .ok (.ldc 184, 2) := dk_18 184 (dk_at dksX10_factOf_5 0 rfl rfl)
theorem dX10_factOf_173 : decode cX10_factOf 173 = .ok (.invokevirtual 59, 3) := dk_182 0 59 (dk_at dksX10_factOf_5 2 rfl rfl)
theorem dX10_factOf_176 : decode cX10_factOf 176 = .ok (.ifCond .eq 65, 3) := dk_153 0 65 (dk_at dksX10_factOf_5 5 rfl rfl)
theorem dX10_factOf_179 : decode cX10_factOf 179 = .ok (.iconst 5, 1) := dk_8 (dk_at dksX10_factOf_5 8 rfl rfl)
theorem dX10_factOf_180 : decode cX10_factOf 180 = .ok (.istore_n 2, 1) := dk_61 (dk_at dksX10_factOf_5 9 rfl rfl)
theorem dX10_factOf_181 : decode cX10_factOf 181 = .ok (.goto 60, 3) := dk_167 0 60 (dk_at dksX10_factOf_5 10 rfl rfl)
theorem dX10_factOf_184 : decode cX10_factOf 184 = .ok (.aload_n 1, 1) := dk_43 (dk_at dksX10_factOf_5 13 rfl rfl)
theorem dX10_factOf_185 : decode cX10_factOf 185 = .ok (.ldc 186, 2) := dk_18 186 (dk_at dksX10_factOf_5 14 rfl rfl)
theorem dX10_factOf_187 : decode cX10_factOf 187 = .ok (.invokevirtual 59, 3) := dk_182 0 59 (dk_at dksX10_factOf_5 16 rfl rfl)
theorem dX10_factOf_190 : decode cX10_factOf 190 = .ok (.ifCond .eq 51, 3) := dk_153 0 51 (dk_at dksX10_factOf_5 19 rfl rfl)
theorem dX10_factOf_193 : decode cX10_factOf 193 = .ok (.bipush 6, 2) := dk_16 6 (dk_at dksX10_factOf_5 22 rfl rfl)
theorem dX10_factOf_195 : decode cX10_factOf 195 = .ok (.istore_n 2, 1) := dk_61 (dk_at dksX10_factOf_6 0 rfl rfl)
theorem dX10_factOf_196 : decode cX10_factOf 196 = .ok (.goto 45, 3) := dk_167 0 45 (dk_at dksX10_factOf_6 1 rfl rfl)
theorem dX10_factOf_199 : decode cX10_factOf 199 = .ok (.aload_n 1, 1) := dk_43 (dk_at dksX10_factOf_6 4 rfl rfl)
theorem dX10_factOf_200 : decode cX10_factOf 200 = .ok (.ldc 188, 2) := dk_18 188 (dk_at dksX10_factOf_6 5 rfl rfl)
theorem dX10_factOf_202 : decode cX10_factOf 202 = .ok (.invokevirtual 59, 3) := dk_182 0 59 (dk_at dksX10_factOf_6 7 rfl rfl)
theorem dX10_factOf_205 : decode cX10_factOf 205 = .ok (.ifCond .eq 36, 3) := dk_153 0 36 (dk_at dksX10_factOf_6 10 rfl rfl)
theorem dX10_factOf_208 : decode cX10_factOf 208 = .ok (.bipush 7, 2) := dk_16 7 (dk_at dksX10_factOf_6 13 rfl rfl)
theorem dX10_factOf_210 : decode cX10_factOf 210 = .ok (.istore_n 2, 1) := dk_61 (dk_at dksX10_factOf_6 15 rfl rfl)
theorem dX10_factOf_211 : decode cX10_factOf 211 = .ok (.goto 30, 3) := dk_167 0 30 (dk_at dksX10_factOf_6 16 rfl rfl)
theorem dX10_factOf_214 : decode cX10_factOf 214 = .ok (.aload_n 1, 1) := dk_43 (dk_at dksX10_factOf_6 19 rfl rfl)
theorem dX10_factOf_215 : decode cX10_factOf 215 = .ok (.ldc 190, 2) := dk_18 190 (dk_at dksX10_factOf_6 20 rfl rfl)
theorem dX10_factOf_217 : decode cX10_factOf 217 = .ok (.invokevirtual 59, 3) := dk_182 0 59 (dk_at dksX10_factOf_7 0 rfl rfl)
theorem dX10_factOf_220 : decode cX10_factOf 220 = .ok (.ifCond .eq 21, 3) := dk_153 0 21 (dk_at dksX10_factOf_7 3 rfl rfl)
theorem dX10_factOf_223 : decode cX10_factOf 223 = .ok (.bipush 8, 2) := dk_16 8 (dk_at dksX10_factOf_7 6 rfl rfl)
theorem dX10_factOf_225 : decode cX10_factOf 225 = .ok (.istore_n 2, 1) := dk_61 (dk_at dksX10_factOf_7 8 rfl rfl)
theorem dX10_factOf_226 : decode cX10_factOf 226 = .ok (.goto 15, 3) := dk_167 0 15 (dk_at dksX10_factOf_7 9 rfl rfl)
theorem dX10_factOf_229 : decode cX10_factOf 229 = .ok (.aload_n 1, 1) := dk_43 (dk_at dksX10_factOf_7 12 rfl rfl)
theorem dX10_factOf_230 : decode cX10_factOf 230 = .ok (.ldc 192, 2) := dk_18 192 (dk_at dksX10_factOf_7 13 rfl rfl)
theorem dX10_factOf_232 : decode cX10_factOf 232 = .ok (.invokevirtual 59, 3) := dk_182 0 59 (dk_at dksX10_factOf_7 15 rfl rfl)
theorem dX10_factOf_235 : decode cX10_factOf 235 = .ok (.ifCond .eq 6, 3) := dk_153 0 6 (dk_at dksX10_factOf_7 18 rfl rfl)
theorem dX10_factOf_238 : decode cX10_factOf 238 = .ok (.bipush 9, 2) := dk_16 9 (dk_at dksX10_factOf_7 21 rfl rfl)
theorem dX10_factOf_240 : decode cX10_factOf 240 = .ok (.istore_n 2, 1) := dk_61 (dk_at dksX10_factOf_7 23 rfl rfl)
theorem dX10_factOf_241 : decode cX10_factOf 241 = .ok (.iload_n 2, 1) := dk_28 (dk_at dksX10_factOf_8 0 rfl rfl)
theorem dX10_factOf_242 : decode cX10_factOf 242 = .ok (.tableswitch 78 0 9 #[54, 56, 58, 60, 62, 64, 66, 69, 72, 75], 54) := by decide +kernel
theorem dX10_factOf_296 : decode cX10_factOf 296 = .ok (.iconst 0, 1) := dk_3 (dk_at dksX10_factOf_10 0 rfl rfl)
theorem dX10_factOf_297 : decode cX10_factOf 297 = .ok (.ireturn, 1) := dk_172 (dk_at dksX10_factOf_10 1 rfl rfl)
theorem dX10_factOf_298 : decode cX10_factOf 298 = .ok (.iconst 1, 1) := dk_4 (dk_at dksX10_factOf_10 2 rfl rfl)
theorem dX10_factOf_299 : decode cX10_factOf 299 = .ok (.ireturn, 1) := dk_172 (dk_at dksX10_factOf_10 3 rfl rfl)
theorem dX10_factOf_300 : decode cX10_factOf 300 = .ok (.iconst 2, 1) := dk_5 (dk_at dksX10_factOf_10 4 rfl rfl)
theorem dX10_factOf_301 : decode cX10_factOf 301 = .ok (.ireturn, 1) := dk_172 (dk_at dksX10_factOf_10 5 rfl rfl)
theorem dX10_factOf_302 : decode cX10_factOf 302 = .ok (.iconst 3, 1) := dk_6 (dk_at dksX10_factOf_10 6 rfl rfl)
theorem dX10_factOf_303 : decode cX10_factOf 303 = .ok (.ireturn, 1) := dk_172 (dk_at dksX10_factOf_10 7 rfl rfl)
theorem dX10_factOf_304 : decode cX10_factOf 304 = .ok (.iconst 4, 1) := dk_7 (dk_at dksX10_factOf_10 8 rfl rfl)
theorem dX10_factOf_305 : decode cX10_factOf 305 = .ok (.ireturn, 1) := dk_172 (dk_at dksX10_factOf_10 9 rfl rfl)
theorem dX10_factOf_306 : decode cX10_factOf 306 = .ok (.iconst 5, 1) := dk_8 (dk_at dksX10_factOf_10 10 rfl rfl)
theorem dX10_factOf_307 : decode cX10_factOf 307 = .ok (.ireturn, 1) := dk_172 (dk_at dksX10_factOf_10 11 rfl rfl)
theorem dX10_factOf_308 : decode cX10_factOf 308 = .ok (.bipush 6, 2) := dk_16 6 (dk_at dksX10_factOf_10 12 rfl rfl)
theorem dX10_factOf_310 : decode cX10_factOf 310 = .ok (.ireturn, 1) := dk_172 (dk_at dksX10_factOf_10 14 rfl rfl)
theorem dX10_factOf_311 : decode cX10_factOf 311 = .ok (.bipush 7, 2) := dk_16 7 (dk_at dksX10_factOf_10 15 rfl rfl)
theorem dX10_factOf_313 : decode cX10_factOf 313 = .ok (.ireturn, 1) := dk_172 (dk_at dksX10_factOf_10 17 rfl rfl)
theorem dX10_factOf_314 : decode cX10_factOf 314 = .ok (.bipush 8, 2) := dk_16 8 (dk_at dksX10_factOf_10 18 rfl rfl)
theorem dX10_factOf_316 : decode cX10_factOf 316 = .ok (.ireturn, 1) := dk_172 (dk_at dksX10_factOf_10 20 rfl rfl)
theorem dX10_factOf_317 : decode cX10_factOf 317 = .ok (.bipush 9, 2) := dk_16 9 (dk_at dksX10_factOf_10 21 rfl rfl)
theorem dX10_factOf_319 : decode cX10_factOf 319 = .ok (.ireturn, 1) := dk_172 (dk_at dksX10_factOf_10 23 rfl rfl)
theorem dX10_factOf_320 : decode cX10_factOf 320 = .ok (.iconst (-1), 1) := dk_2 (dk_at dksX10_factOf_11 0 rfl rfl)
theorem dX10_factOf_321 : decode cX10_factOf 321 = .ok (.ireturn, 1) := dk_172 (dk_at dksX10_factOf_11 1 rfl rfl)
abbrev cX10_takes : ByteArray := prog_16_method_6_code
def yX10_takes : MethodName := ⟨RX10, "takes", "(Ljava/lang/String;)Z"⟩
def dkwX10_takes_1 : List UInt8 := [181, 0, 26, 4, 172]
abbrev dktX10_takes_1 : List UInt8 := dkwX10_takes_1 ++ []
def dkwX10_takes_0 : List UInt8 := [42, 182, 0, 56, 43, 182, 0, 59, 154, 0, 5, 3, 172, 42, 89, 180, 0, 26, 43, 182, 0, 65, 96]
abbrev dktX10_takes_0 : List UInt8 := dkwX10_takes_0 ++ dktX10_takes_1
theorem dksX10_takes_0 : cX10_takes.data.toList.drop 0 = dktX10_takes_0 := by decide +kernel
theorem dksX10_takes_1 : cX10_takes.data.toList.drop 23 = dktX10_takes_1 := dk_seg dksX10_takes_0 23 rfl rfl
theorem dX10_takes_0 : decode cX10_takes 0 = .ok (.aload_n 0, 1) := dk_42 (dk_at dksX10_takes_0 0 rfl rfl)
theorem dX10_takes_1 : decode cX10_takes 1 = .ok (.invokevirtual 56, 3) := dk_182 0 56 (dk_at dksX10_takes_0 1 rfl rfl)
theorem dX10_takes_4 : decode cX10_takes 4 = .ok (.aload_n 1, 1) := dk_43 (dk_at dksX10_takes_0 4 rfl rfl)
theorem dX10_takes_5 : decode cX10_takes 5 = .ok (.invokevirtual 59, 3) := dk_182 0 59 (dk_at dksX10_takes_0 5 rfl rfl)
theorem dX10_takes_8 : decode cX10_takes 8 = .ok (.ifCond .ne 5, 3) := dk_154 0 5 (dk_at dksX10_takes_0 8 rfl rfl)
theorem dX10_takes_11 : decode cX10_takes 11 = .ok (.iconst 0, 1) := dk_3 (dk_at dksX10_takes_0 11 rfl rfl)
theorem dX10_takes_12 : decode cX10_takes 12 = .ok (.ireturn, 1) := dk_172 (dk_at dksX10_takes_0 12 rfl rfl)
theorem dX10_takes_13 : decode cX10_takes 13 = .ok (.aload_n 0, 1) := dk_42 (dk_at dksX10_takes_0 13 rfl rfl)
theorem dX10_takes_14 : decode cX10_takes 14 = .ok (.dup, 1) := dk_89 (dk_at dksX10_takes_0 14 rfl rfl)
theorem dX10_takes_15 : decode cX10_takes 15 = .ok (.getfield 26, 3) := dk_180 0 26 (dk_at dksX10_takes_0 15 rfl rfl)
theorem dX10_takes_18 : decode cX10_takes 18 = .ok (.aload_n 1, 1) := dk_43 (dk_at dksX10_takes_0 18 rfl rfl)
theorem dX10_takes_19 : decode cX10_takes 19 = .ok (.invokevirtual 65, 3) := dk_182 0 65 (dk_at dksX10_takes_0 19 rfl rfl)
theorem dX10_takes_22 : decode cX10_takes 22 = .ok (.iadd, 1) := dk_96 (dk_at dksX10_takes_0 22 rfl rfl)
theorem dX10_takes_23 : decode cX10_takes 23 = .ok (.putfield 26, 3) := dk_181 0 26 (dk_at dksX10_takes_1 0 rfl rfl)
theorem dX10_takes_26 : decode cX10_takes 26 = .ok (.iconst 1, 1) := dk_4 (dk_at dksX10_takes_1 3 rfl rfl)
theorem dX10_takes_27 : decode cX10_takes 27 = .ok (.ireturn, 1) := dk_172 (dk_at dksX10_takes_1 4 rfl rfl)
theorem q155 : (Jvm.Cond.initialized "LotBeliefs$TongueReader") ∈ lw_all := lw_g (lw_at lw_m1 31 rfl) rfl
theorem q572 : (Jvm.Cond.fieldLinkNest "LotBeliefs$TongueReader" (75 : Nat) "LotBeliefs$Tongue" "grounds" "Ljava/util/ArrayList;" "LotBeliefs") ∈ lw_tbl := lw_at lw_m2 208 rfl
theorem q575 : (Jvm.Cond.fieldLinkNest "LotBeliefs$TongueReader" (83 : Nat) "LotBeliefs$Tongue" "who" "[I" "LotBeliefs") ∈ lw_tbl := lw_at lw_m2 211 rfl
theorem q1298 : (Jvm.Cond.selects "LotBeliefs$TongueReader" ({ cls := "java/lang/Object", name := "getClass", desc := "()Ljava/lang/Class;" } : Jvm.MethodName) ({ cls := "java/lang/Object", name := "getClass", desc := "()Ljava/lang/Class;" } : Jvm.MethodName)) ∈ lw_all := lw_g (lw_at lw_m5 214 rfl) rfl
theorem q1337 : (Jvm.Cond.instantiable "LotBeliefs$TongueReader" (5 : Nat)) ∈ lw_all := lw_g (lw_at lw_m6 13 rfl) rfl
theorem q1339 : (Jvm.Cond.instanceMethod ({ cls := "LotBeliefs$TongueReader", name := "<init>", desc := "([BI)V" } : Jvm.MethodName)) ∈ lw_all := lw_g (lw_at lw_m6 15 rfl) rfl
theorem q1340 : (Jvm.Cond.code ({ cls := "LotBeliefs$TongueReader", name := "<init>", desc := "([BI)V" } : Jvm.MethodName) prog_16_method_1_code (3 : Nat) (Option.none : Option Jvm.ClassFile.FieldType)) ∈ lw_all := lw_g (lw_at lw_m6 16 rfl) rfl
theorem q1341 : (Jvm.Cond.methodLink "LotBeliefs$TongueReader" (3 : Nat) ({ cls := "java/lang/Object", name := "<init>", desc := "()V" } : Jvm.MethodName)) ∈ lw_all := lw_g (lw_at lw_m6 17 rfl) rfl
theorem q1342 : (Jvm.Cond.classLink "LotBeliefs$TongueReader" (9 : Nat) "LotBeliefs$Tongue") ∈ lw_all := lw_g (lw_at lw_m6 18 rfl) rfl
theorem q1343 : (Jvm.Cond.methodLinkNest "LotBeliefs$TongueReader" (11 : Nat) ({ cls := "LotBeliefs$Tongue", name := "<init>", desc := "()V" } : Jvm.MethodName) "LotBeliefs") ∈ lw_tbl := lw_at lw_m6 19 rfl
theorem q1344 : (Jvm.Cond.fieldLink "LotBeliefs$TongueReader" (18 : Nat) "LotBeliefs$TongueReader" "text" "[B") ∈ lw_all := lw_g (lw_at lw_m6 20 rfl) rfl
theorem q1345 : (Jvm.Cond.fieldLink "LotBeliefs$TongueReader" (22 : Nat) "LotBeliefs$TongueReader" "size" "I") ∈ lw_all := lw_g (lw_at lw_m6 21 rfl) rfl
theorem q1346 : (Jvm.Cond.fieldLink "LotBeliefs$TongueReader" (12 : Nat) "LotBeliefs$TongueReader" "tongue" "LLotBeliefs$Tongue;") ∈ lw_all := lw_g (lw_at lw_m6 22 rfl) rfl
theorem q1347 : (Jvm.Cond.fieldLink "LotBeliefs$TongueReader" (26 : Nat) "LotBeliefs$TongueReader" "next" "I") ∈ lw_all := lw_g (lw_at lw_m6 23 rfl) rfl
theorem q1348 : (Jvm.Cond.fieldLink "LotBeliefs$TongueReader" (66 : Nat) "LotBeliefs$TongueReader" "open" "I") ∈ lw_all := lw_g (lw_at lw_m6 24 rfl) rfl
theorem q1349 : (Jvm.Cond.laysFinal "LotBeliefs$TongueReader" "LotBeliefs$TongueReader" "text" "[B") ∈ lw_all := lw_g (lw_at lw_m6 25 rfl) rfl
theorem q1350 : (Jvm.Cond.soleField "LotBeliefs$TongueReader" "text") ∈ lw_all := lw_g (lw_at lw_m6 26 rfl) rfl
theorem q1351 : (Jvm.Cond.laysFinal "LotBeliefs$TongueReader" "LotBeliefs$TongueReader" "size" "I") ∈ lw_all := lw_g (lw_at lw_m6 27 rfl) rfl
theorem q1352 : (Jvm.Cond.soleField "LotBeliefs$TongueReader" "size") ∈ lw_all := lw_g (lw_at lw_m6 28 rfl) rfl
theorem q1353 : (Jvm.Cond.laysFinal "LotBeliefs$TongueReader" "LotBeliefs$TongueReader" "tongue" "LLotBeliefs$Tongue;") ∈ lw_all := lw_g (lw_at lw_m6 29 rfl) rfl
theorem q1354 : (Jvm.Cond.soleField "LotBeliefs$TongueReader" "tongue") ∈ lw_all := lw_g (lw_at lw_m6 30 rfl) rfl
theorem q1355 : (Jvm.Cond.lays "LotBeliefs$TongueReader" "LotBeliefs$TongueReader" "next" "I") ∈ lw_all := lw_g (lw_at lw_m6 31 rfl) rfl
theorem q1356 : (Jvm.Cond.soleField "LotBeliefs$TongueReader" "next") ∈ lw_all := lw_g (lw_at lw_m6 32 rfl) rfl
theorem q1357 : (Jvm.Cond.lays "LotBeliefs$TongueReader" "LotBeliefs$TongueReader" "open" "I") ∈ lw_all := lw_g (lw_at lw_m6 33 rfl) rfl
theorem q1358 : (Jvm.Cond.soleField "LotBeliefs$TongueReader" "open") ∈ lw_all := lw_g (lw_at lw_m6 34 rfl) rfl
theorem q1359 : (Jvm.Cond.superclass "LotBeliefs$TongueReader" "java/lang/Object") ∈ lw_all := lw_g (lw_at lw_m6 35 rfl) rfl
theorem q1361 : (Jvm.Cond.instanceMethod ({ cls := "LotBeliefs$TongueReader", name := "reads", desc := "()LLotBeliefs$Tongue;" } : Jvm.MethodName)) ∈ lw_all := lw_g (lw_at lw_m6 37 rfl) rfl
theorem q1362 : (Jvm.Cond.selects "LotBeliefs$TongueReader" ({ cls := "LotBeliefs$TongueReader", name := "reads", desc := "()LLotBeliefs$Tongue;" } : Jvm.MethodName) ({ cls := "LotBeliefs$TongueReader", name := "reads", desc := "()LLotBeliefs$Tongue;" } : Jvm.MethodName)) ∈ lw_all := lw_g (lw_at lw_m6 38 rfl) rfl
theorem q1363 : (Jvm.Cond.code ({ cls := "LotBeliefs$TongueReader", name := "reads", desc := "()LLotBeliefs$Tongue;" } : Jvm.MethodName) prog_16_method_8_code (4 : Nat) (Option.some (Jvm.ClassFile.FieldType.object "LotBeliefs$Tongue"))) ∈ lw_all := lw_g (lw_at lw_m6 39 rfl) rfl
theorem q1364 : (Jvm.Cond.methodLink "LotBeliefs$TongueReader" (29 : Nat) ({ cls := "LotBeliefs$TongueReader", name := "sign", desc := "()I" } : Jvm.MethodName)) ∈ lw_all := lw_g (lw_at lw_m6 40 rfl) rfl
theorem q1365 : (Jvm.Cond.privateMethod ({ cls := "LotBeliefs$TongueReader", name := "sign", desc := "()I" } : Jvm.MethodName)) ∈ lw_tbl := lw_at lw_m6 41 rfl
theorem q1366 : (Jvm.Cond.instanceMethod ({ cls := "LotBeliefs$TongueReader", name := "sign", desc := "()I" } : Jvm.MethodName)) ∈ lw_all := lw_g (lw_at lw_m6 42 rfl) rfl
theorem q1367 : (Jvm.Cond.code ({ cls := "LotBeliefs$TongueReader", name := "sign", desc := "()I" } : Jvm.MethodName) prog_16_method_2_code (1 : Nat) (Option.some Jvm.ClassFile.FieldType.int)) ∈ lw_all := lw_g (lw_at lw_m6 43 rfl) rfl
theorem q1368 : (Jvm.Cond.methodLink "LotBeliefs$TongueReader" (56 : Nat) ({ cls := "LotBeliefs$TongueReader", name := "word", desc := "()Ljava/lang/String;" } : Jvm.MethodName)) ∈ lw_all := lw_g (lw_at lw_m6 44 rfl) rfl
theorem q1369 : (Jvm.Cond.privateMethod ({ cls := "LotBeliefs$TongueReader", name := "word", desc := "()Ljava/lang/String;" } : Jvm.MethodName)) ∈ lw_tbl := lw_at lw_m6 45 rfl
theorem q1370 : (Jvm.Cond.instanceMethod ({ cls := "LotBeliefs$TongueReader", name := "word", desc := "()Ljava/lang/String;" } : Jvm.MethodName)) ∈ lw_all := lw_g (lw_at lw_m6 46 rfl) rfl
theorem q1371 : (Jvm.Cond.code ({ cls := "LotBeliefs$TongueReader", name := "word", desc := "()Ljava/lang/String;" } : Jvm.MethodName) prog_16_method_3_code (3 : Nat) (Option.some (Jvm.ClassFile.FieldType.object "java/lang/String"))) ∈ lw_all := lw_g (lw_at lw_m6 47 rfl) rfl
theorem q1372 : (Jvm.Cond.classLink "LotBeliefs$TongueReader" (33 : Nat) "java/lang/StringBuilder") ∈ lw_all := lw_g (lw_at lw_m6 48 rfl) rfl
theorem q1373 : (Jvm.Cond.methodLink "LotBeliefs$TongueReader" (35 : Nat) ({ cls := "java/lang/StringBuilder", name := "<init>", desc := "()V" } : Jvm.MethodName)) ∈ lw_all := lw_g (lw_at lw_m6 49 rfl) rfl
theorem q1374 : (Jvm.Cond.methodLink "LotBeliefs$TongueReader" (36 : Nat) ({ cls := "java/lang/StringBuilder", name := "length", desc := "()I" } : Jvm.MethodName)) ∈ lw_all := lw_g (lw_at lw_m6 50 rfl) rfl
theorem q1375 : (Jvm.Cond.methodLink "LotBeliefs$TongueReader" (39 : Nat) ({ cls := "java/lang/StringBuilder", name := "append", desc := "(C)Ljava/lang/StringBuilder;" } : Jvm.MethodName)) ∈ lw_all := lw_g (lw_at lw_m6 51 rfl) rfl
theorem q1376 : (Jvm.Cond.methodLink "LotBeliefs$TongueReader" (43 : Nat) ({ cls := "java/lang/StringBuilder", name := "toString", desc := "()Ljava/lang/String;" } : Jvm.MethodName)) ∈ lw_all := lw_g (lw_at lw_m6 52 rfl) rfl
theorem q1377 : (Jvm.Cond.stringRef "LotBeliefs$TongueReader" (69 : Nat) "new") ∈ lw_tbl := lw_at lw_m6 53 rfl
theorem q1378 : (Jvm.Cond.methodLink "LotBeliefs$TongueReader" (59 : Nat) ({ cls := "java/lang/String", name := "equals", desc := "(Ljava/lang/Object;)Z" } : Jvm.MethodName)) ∈ lw_all := lw_g (lw_at lw_m6 54 rfl) rfl
theorem q1379 : (Jvm.Cond.stringRef "LotBeliefs$TongueReader" (71 : Nat) "old") ∈ lw_tbl := lw_at lw_m6 55 rfl
theorem q1380 : (Jvm.Cond.stringRef "LotBeliefs$TongueReader" (73 : Nat) "both") ∈ lw_tbl := lw_at lw_m6 56 rfl
theorem q1381 : (Jvm.Cond.methodLink "LotBeliefs$TongueReader" (52 : Nat) ({ cls := "LotBeliefs$TongueReader", name := "wrong", desc := "()LLotBeliefs$Wrong;" } : Jvm.MethodName)) ∈ lw_all := lw_g (lw_at lw_m6 57 rfl) rfl
theorem q1382 : (Jvm.Cond.privateMethod ({ cls := "LotBeliefs$TongueReader", name := "wrong", desc := "()LLotBeliefs$Wrong;" } : Jvm.MethodName)) ∈ lw_tbl := lw_at lw_m6 58 rfl
theorem q1383 : (Jvm.Cond.instanceMethod ({ cls := "LotBeliefs$TongueReader", name := "wrong", desc := "()LLotBeliefs$Wrong;" } : Jvm.MethodName)) ∈ lw_all := lw_g (lw_at lw_m6 59 rfl) rfl
theorem q1384 : (Jvm.Cond.code ({ cls := "LotBeliefs$TongueReader", name := "wrong", desc := "()LLotBeliefs$Wrong;" } : Jvm.MethodName) prog_16_method_4_code (1 : Nat) (Option.some (Jvm.ClassFile.FieldType.object "LotBeliefs$Wrong"))) ∈ lw_all := lw_g (lw_at lw_m6 60 rfl) rfl
theorem q1385 : (Jvm.Cond.classLink "LotBeliefs$TongueReader" (47 : Nat) "LotBeliefs$Wrong") ∈ lw_all := lw_g (lw_at lw_m6 61 rfl) rfl
theorem q1386 : (Jvm.Cond.methodLink "LotBeliefs$TongueReader" (49 : Nat) ({ cls := "LotBeliefs$Wrong", name := "<init>", desc := "(II)V" } : Jvm.MethodName)) ∈ lw_all := lw_g (lw_at lw_m6 62 rfl) rfl
theorem q1387 : (Jvm.Cond.methodLink "LotBeliefs$TongueReader" (79 : Nat) ({ cls := "java/util/ArrayList", name := "size", desc := "()I" } : Jvm.MethodName)) ∈ lw_all := lw_g (lw_at lw_m6 63 rfl) rfl
theorem q1388 : (Jvm.Cond.methodLink "LotBeliefs$TongueReader" (65 : Nat) ({ cls := "java/lang/String", name := "length", desc := "()I" } : Jvm.MethodName)) ∈ lw_all := lw_g (lw_at lw_m6 64 rfl) rfl
theorem q1389 : (Jvm.Cond.methodLink "LotBeliefs$TongueReader" (87 : Nat) ({ cls := "LotBeliefs$TongueReader", name := "any", desc := "()LLotBeliefs$Ground;" } : Jvm.MethodName)) ∈ lw_all := lw_g (lw_at lw_m6 65 rfl) rfl
theorem q1390 : (Jvm.Cond.privateMethod ({ cls := "LotBeliefs$TongueReader", name := "any", desc := "()LLotBeliefs$Ground;" } : Jvm.MethodName)) ∈ lw_tbl := lw_at lw_m6 66 rfl
theorem q1391 : (Jvm.Cond.instanceMethod ({ cls := "LotBeliefs$TongueReader", name := "any", desc := "()LLotBeliefs$Ground;" } : Jvm.MethodName)) ∈ lw_all := lw_g (lw_at lw_m6 67 rfl) rfl
theorem q1392 : (Jvm.Cond.code ({ cls := "LotBeliefs$TongueReader", name := "any", desc := "()LLotBeliefs$Ground;" } : Jvm.MethodName) prog_16_method_9_code (2 : Nat) (Option.some (Jvm.ClassFile.FieldType.object "LotBeliefs$Ground"))) ∈ lw_all := lw_g (lw_at lw_m6 68 rfl) rfl
theorem q1393 : (Jvm.Cond.classLink "LotBeliefs$TongueReader" (98 : Nat) "LotBeliefs$Some") ∈ lw_all := lw_g (lw_at lw_m6 69 rfl) rfl
theorem q1395 : (Jvm.Cond.methodLink "LotBeliefs$TongueReader" (100 : Nat) ({ cls := "LotBeliefs$Some", name := "<init>", desc := "(Z)V" } : Jvm.MethodName)) ∈ lw_all := lw_g (lw_at lw_m6 71 rfl) rfl
theorem q1406 : (Jvm.Cond.fieldLinkNest "LotBeliefs$TongueReader" (103 : Nat) "LotBeliefs$Some" "grounds" "Ljava/util/ArrayList;" "LotBeliefs") ∈ lw_tbl := lw_at lw_m6 82 rfl
theorem q1412 : (Jvm.Cond.methodLink "LotBeliefs$TongueReader" (104 : Nat) ({ cls := "LotBeliefs$TongueReader", name := "all", desc := "()LLotBeliefs$Ground;" } : Jvm.MethodName)) ∈ lw_all := lw_g (lw_at lw_m6 88 rfl) rfl
theorem q1413 : (Jvm.Cond.privateMethod ({ cls := "LotBeliefs$TongueReader", name := "all", desc := "()LLotBeliefs$Ground;" } : Jvm.MethodName)) ∈ lw_tbl := lw_at lw_m6 89 rfl
theorem q1414 : (Jvm.Cond.instanceMethod ({ cls := "LotBeliefs$TongueReader", name := "all", desc := "()LLotBeliefs$Ground;" } : Jvm.MethodName)) ∈ lw_all := lw_g (lw_at lw_m6 90 rfl) rfl
theorem q1415 : (Jvm.Cond.code ({ cls := "LotBeliefs$TongueReader", name := "all", desc := "()LLotBeliefs$Ground;" } : Jvm.MethodName) prog_16_method_10_code (2 : Nat) (Option.some (Jvm.ClassFile.FieldType.object "LotBeliefs$Ground"))) ∈ lw_all := lw_g (lw_at lw_m6 91 rfl) rfl
theorem q1416 : (Jvm.Cond.methodLink "LotBeliefs$TongueReader" (113 : Nat) ({ cls := "LotBeliefs$TongueReader", name := "one", desc := "()LLotBeliefs$Ground;" } : Jvm.MethodName)) ∈ lw_all := lw_g (lw_at lw_m6 92 rfl) rfl
theorem q1417 : (Jvm.Cond.privateMethod ({ cls := "LotBeliefs$TongueReader", name := "one", desc := "()LLotBeliefs$Ground;" } : Jvm.MethodName)) ∈ lw_tbl := lw_at lw_m6 93 rfl
theorem q1418 : (Jvm.Cond.instanceMethod ({ cls := "LotBeliefs$TongueReader", name := "one", desc := "()LLotBeliefs$Ground;" } : Jvm.MethodName)) ∈ lw_all := lw_g (lw_at lw_m6 94 rfl) rfl
theorem q1419 : (Jvm.Cond.code ({ cls := "LotBeliefs$TongueReader", name := "one", desc := "()LLotBeliefs$Ground;" } : Jvm.MethodName) prog_16_method_11_code (3 : Nat) (Option.some (Jvm.ClassFile.FieldType.object "LotBeliefs$Ground"))) ∈ lw_all := lw_g (lw_at lw_m6 95 rfl) rfl
theorem q1420 : (Jvm.Cond.stringRef "LotBeliefs$TongueReader" (118 : Nat) "not") ∈ lw_tbl := lw_at lw_m6 96 rfl
theorem q1421 : (Jvm.Cond.methodLink "LotBeliefs$TongueReader" (120 : Nat) ({ cls := "LotBeliefs$TongueReader", name := "opens", desc := "(I)V" } : Jvm.MethodName)) ∈ lw_all := lw_g (lw_at lw_m6 97 rfl) rfl
theorem q1422 : (Jvm.Cond.privateMethod ({ cls := "LotBeliefs$TongueReader", name := "opens", desc := "(I)V" } : Jvm.MethodName)) ∈ lw_tbl := lw_at lw_m6 98 rfl
theorem q1423 : (Jvm.Cond.instanceMethod ({ cls := "LotBeliefs$TongueReader", name := "opens", desc := "(I)V" } : Jvm.MethodName)) ∈ lw_all := lw_g (lw_at lw_m6 99 rfl) rfl
theorem q1424 : (Jvm.Cond.code ({ cls := "LotBeliefs$TongueReader", name := "opens", desc := "(I)V" } : Jvm.MethodName) prog_16_method_7_code (2 : Nat) (Option.none : Option Jvm.ClassFile.FieldType)) ∈ lw_all := lw_g (lw_at lw_m6 100 rfl) rfl
theorem q1425 : (Jvm.Cond.classLink "LotBeliefs$TongueReader" (123 : Nat) "LotBeliefs$Never") ∈ lw_all := lw_g (lw_at lw_m6 101 rfl) rfl
theorem q1427 : (Jvm.Cond.methodLink "LotBeliefs$TongueReader" (125 : Nat) ({ cls := "LotBeliefs$Never", name := "<init>", desc := "(LLotBeliefs$Ground;)V" } : Jvm.MethodName)) ∈ lw_all := lw_g (lw_at lw_m6 103 rfl) rfl
theorem q1435 : (Jvm.Cond.methodLink "LotBeliefs$TongueReader" (94 : Nat) ({ cls := "LotBeliefs$TongueReader", name := "need", desc := "(I)V" } : Jvm.MethodName)) ∈ lw_all := lw_g (lw_at lw_m6 111 rfl) rfl
theorem q1436 : (Jvm.Cond.privateMethod ({ cls := "LotBeliefs$TongueReader", name := "need", desc := "(I)V" } : Jvm.MethodName)) ∈ lw_tbl := lw_at lw_m6 112 rfl
theorem q1437 : (Jvm.Cond.instanceMethod ({ cls := "LotBeliefs$TongueReader", name := "need", desc := "(I)V" } : Jvm.MethodName)) ∈ lw_all := lw_g (lw_at lw_m6 113 rfl) rfl
theorem q1438 : (Jvm.Cond.code ({ cls := "LotBeliefs$TongueReader", name := "need", desc := "(I)V" } : Jvm.MethodName) prog_16_method_5_code (2 : Nat) (Option.none : Option Jvm.ClassFile.FieldType)) ∈ lw_all := lw_g (lw_at lw_m6 114 rfl) rfl
theorem q1439 : (Jvm.Cond.methodLink "LotBeliefs$TongueReader" (128 : Nat) ({ cls := "LotBeliefs$TongueReader", name := "sum", desc := "()LLotBeliefs$Term;" } : Jvm.MethodName)) ∈ lw_all := lw_g (lw_at lw_m6 115 rfl) rfl
theorem q1440 : (Jvm.Cond.privateMethod ({ cls := "LotBeliefs$TongueReader", name := "sum", desc := "()LLotBeliefs$Term;" } : Jvm.MethodName)) ∈ lw_tbl := lw_at lw_m6 116 rfl
theorem q1441 : (Jvm.Cond.instanceMethod ({ cls := "LotBeliefs$TongueReader", name := "sum", desc := "()LLotBeliefs$Term;" } : Jvm.MethodName)) ∈ lw_all := lw_g (lw_at lw_m6 117 rfl) rfl
theorem q1442 : (Jvm.Cond.code ({ cls := "LotBeliefs$TongueReader", name := "sum", desc := "()LLotBeliefs$Term;" } : Jvm.MethodName) prog_16_method_12_code (3 : Nat) (Option.some (Jvm.ClassFile.FieldType.object "LotBeliefs$Term"))) ∈ lw_all := lw_g (lw_at lw_m6 118 rfl) rfl
theorem q1443 : (Jvm.Cond.classLink "LotBeliefs$TongueReader" (137 : Nat) "LotBeliefs$Row") ∈ lw_all := lw_g (lw_at lw_m6 119 rfl) rfl
theorem q1445 : (Jvm.Cond.methodLink "LotBeliefs$TongueReader" (139 : Nat) ({ cls := "LotBeliefs$TongueReader", name := "product", desc := "()LLotBeliefs$Term;" } : Jvm.MethodName)) ∈ lw_all := lw_g (lw_at lw_m6 121 rfl) rfl
theorem q1446 : (Jvm.Cond.privateMethod ({ cls := "LotBeliefs$TongueReader", name := "product", desc := "()LLotBeliefs$Term;" } : Jvm.MethodName)) ∈ lw_tbl := lw_at lw_m6 122 rfl
theorem q1447 : (Jvm.Cond.instanceMethod ({ cls := "LotBeliefs$TongueReader", name := "product", desc := "()LLotBeliefs$Term;" } : Jvm.MethodName)) ∈ lw_all := lw_g (lw_at lw_m6 123 rfl) rfl
theorem q1448 : (Jvm.Cond.code ({ cls := "LotBeliefs$TongueReader", name := "product", desc := "()LLotBeliefs$Term;" } : Jvm.MethodName) prog_16_method_13_code (2 : Nat) (Option.some (Jvm.ClassFile.FieldType.object "LotBeliefs$Term"))) ∈ lw_all := lw_g (lw_at lw_m6 124 rfl) rfl
theorem q1449 : (Jvm.Cond.methodLink "LotBeliefs$TongueReader" (148 : Nat) ({ cls := "LotBeliefs$TongueReader", name := "unit", desc := "()LLotBeliefs$Term;" } : Jvm.MethodName)) ∈ lw_all := lw_g (lw_at lw_m6 125 rfl) rfl
theorem q1450 : (Jvm.Cond.privateMethod ({ cls := "LotBeliefs$TongueReader", name := "unit", desc := "()LLotBeliefs$Term;" } : Jvm.MethodName)) ∈ lw_tbl := lw_at lw_m6 126 rfl
theorem q1451 : (Jvm.Cond.instanceMethod ({ cls := "LotBeliefs$TongueReader", name := "unit", desc := "()LLotBeliefs$Term;" } : Jvm.MethodName)) ∈ lw_all := lw_g (lw_at lw_m6 127 rfl) rfl
theorem q1452 : (Jvm.Cond.code ({ cls := "LotBeliefs$TongueReader", name := "unit", desc := "()LLotBeliefs$Term;" } : Jvm.MethodName) prog_16_method_14_code (4 : Nat) (Option.some (Jvm.ClassFile.FieldType.object "LotBeliefs$Term"))) ∈ lw_all := lw_g (lw_at lw_m6 128 rfl) rfl
theorem q1453 : (Jvm.Cond.classLink "LotBeliefs$TongueReader" (151 : Nat) "LotBeliefs$Plain") ∈ lw_all := lw_g (lw_at lw_m6 129 rfl) rfl
theorem q1455 : (Jvm.Cond.methodLink "LotBeliefs$TongueReader" (153 : Nat) ({ cls := "LotBeliefs$TongueReader", name := "number", desc := "()I" } : Jvm.MethodName)) ∈ lw_all := lw_g (lw_at lw_m6 131 rfl) rfl
theorem q1456 : (Jvm.Cond.privateMethod ({ cls := "LotBeliefs$TongueReader", name := "number", desc := "()I" } : Jvm.MethodName)) ∈ lw_tbl := lw_at lw_m6 132 rfl
theorem q1457 : (Jvm.Cond.instanceMethod ({ cls := "LotBeliefs$TongueReader", name := "number", desc := "()I" } : Jvm.MethodName)) ∈ lw_all := lw_g (lw_at lw_m6 133 rfl) rfl
theorem q1458 : (Jvm.Cond.code ({ cls := "LotBeliefs$TongueReader", name := "number", desc := "()I" } : Jvm.MethodName) prog_16_method_15_code (3 : Nat) (Option.some Jvm.ClassFile.FieldType.int)) ∈ lw_all := lw_g (lw_at lw_m6 134 rfl) rfl
theorem q1459 : (Jvm.Cond.methodLink "LotBeliefs$TongueReader" (165 : Nat) ({ cls := "java/lang/Math", name := "min", desc := "(II)I" } : Jvm.MethodName)) ∈ lw_all := lw_g (lw_at lw_m6 135 rfl) rfl
theorem q1460 : (Jvm.Cond.methodLink "LotBeliefs$TongueReader" (156 : Nat) ({ cls := "LotBeliefs$Plain", name := "<init>", desc := "(I)V" } : Jvm.MethodName)) ∈ lw_all := lw_g (lw_at lw_m6 136 rfl) rfl
theorem q1471 : (Jvm.Cond.methodLink "LotBeliefs$TongueReader" (158 : Nat) ({ cls := "LotBeliefs$TongueReader", name := "factOf", desc := "(Ljava/lang/String;)I" } : Jvm.MethodName)) ∈ lw_all := lw_g (lw_at lw_m6 147 rfl) rfl
theorem q1472 : (Jvm.Cond.static ({ cls := "LotBeliefs$TongueReader", name := "factOf", desc := "(Ljava/lang/String;)I" } : Jvm.MethodName)) ∈ lw_all := lw_g (lw_at lw_m6 148 rfl) rfl
theorem q1473 : (Jvm.Cond.code ({ cls := "LotBeliefs$TongueReader", name := "factOf", desc := "(Ljava/lang/String;)I" } : Jvm.MethodName) prog_16_method_16_code (3 : Nat) (Option.some Jvm.ClassFile.FieldType.int)) ∈ lw_all := lw_g (lw_at lw_m6 149 rfl) rfl
theorem q1474 : (Jvm.Cond.methodLink "LotBeliefs$TongueReader" (171 : Nat) ({ cls := "java/lang/String", name := "hashCode", desc := "()I" } : Jvm.MethodName)) ∈ lw_all := lw_g (lw_at lw_m6 150 rfl) rfl
theorem q1475 : (Jvm.Cond.stringRef "LotBeliefs$TongueReader" (174 : Nat) "age") ∈ lw_tbl := lw_at lw_m6 151 rfl
theorem q1476 : (Jvm.Cond.stringRef "LotBeliefs$TongueReader" (176 : Nat) "hurts") ∈ lw_tbl := lw_at lw_m6 152 rfl
theorem q1477 : (Jvm.Cond.stringRef "LotBeliefs$TongueReader" (178 : Nat) "olds") ∈ lw_tbl := lw_at lw_m6 153 rfl
theorem q1478 : (Jvm.Cond.stringRef "LotBeliefs$TongueReader" (180 : Nat) "news") ∈ lw_tbl := lw_at lw_m6 154 rfl
theorem q1479 : (Jvm.Cond.stringRef "LotBeliefs$TongueReader" (182 : Nat) "oldn") ∈ lw_tbl := lw_at lw_m6 155 rfl
theorem q1480 : (Jvm.Cond.stringRef "LotBeliefs$TongueReader" (184 : Nat) "newn") ∈ lw_tbl := lw_at lw_m6 156 rfl
theorem q1481 : (Jvm.Cond.stringRef "LotBeliefs$TongueReader" (186 : Nat) "week") ∈ lw_tbl := lw_at lw_m6 157 rfl
theorem q1482 : (Jvm.Cond.stringRef "LotBeliefs$TongueReader" (188 : Nat) "held") ∈ lw_tbl := lw_at lw_m6 158 rfl
theorem q1483 : (Jvm.Cond.stringRef "LotBeliefs$TongueReader" (190 : Nat) "left") ∈ lw_tbl := lw_at lw_m6 159 rfl
theorem q1484 : (Jvm.Cond.stringRef "LotBeliefs$TongueReader" (192 : Nat) "shared") ∈ lw_tbl := lw_at lw_m6 160 rfl
theorem q1485 : (Jvm.Cond.classLink "LotBeliefs$TongueReader" (162 : Nat) "LotBeliefs$Fact") ∈ lw_all := lw_g (lw_at lw_m6 161 rfl) rfl
theorem q1487 : (Jvm.Cond.methodLink "LotBeliefs$TongueReader" (164 : Nat) ({ cls := "LotBeliefs$Fact", name := "<init>", desc := "(I)V" } : Jvm.MethodName)) ∈ lw_all := lw_g (lw_at lw_m6 163 rfl) rfl
theorem q1495 : (Jvm.Cond.methodLink "LotBeliefs$TongueReader" (142 : Nat) ({ cls := "LotBeliefs$Row", name := "<init>", desc := "(LLotBeliefs$Term;)V" } : Jvm.MethodName)) ∈ lw_all := lw_g (lw_at lw_m6 171 rfl) rfl
theorem q1533 : (Jvm.Cond.methodLink "LotBeliefs$TongueReader" (145 : Nat) ({ cls := "LotBeliefs$Row", name := "add", desc := "(ILLotBeliefs$Term;)V" } : Jvm.MethodName)) ∈ lw_all := lw_g (lw_at lw_m6 209 rfl) rfl
theorem q1534 : (Jvm.Cond.classLink "LotBeliefs$TongueReader" (132 : Nat) "LotBeliefs$Holds") ∈ lw_all := lw_g (lw_at lw_m6 210 rfl) rfl
theorem q1536 : (Jvm.Cond.methodLink "LotBeliefs$TongueReader" (134 : Nat) ({ cls := "LotBeliefs$Holds", name := "<init>", desc := "(LLotBeliefs$Term;ILLotBeliefs$Term;)V" } : Jvm.MethodName)) ∈ lw_all := lw_g (lw_at lw_m6 212 rfl) rfl
theorem q1550 : (Jvm.Cond.methodLink "LotBeliefs$TongueReader" (91 : Nat) ({ cls := "java/util/ArrayList", name := "add", desc := "(Ljava/lang/Object;)Z" } : Jvm.MethodName)) ∈ lw_all := lw_g (lw_at lw_m6 226 rfl) rfl
theorem q1551 : (Jvm.Cond.stringRef "LotBeliefs$TongueReader" (116 : Nat) "and") ∈ lw_tbl := lw_at lw_m6 227 rfl
theorem q1552 : (Jvm.Cond.methodLink "LotBeliefs$TongueReader" (109 : Nat) ({ cls := "LotBeliefs$TongueReader", name := "takes", desc := "(Ljava/lang/String;)Z" } : Jvm.MethodName)) ∈ lw_all := lw_g (lw_at lw_m6 228 rfl) rfl
theorem q1553 : (Jvm.Cond.privateMethod ({ cls := "LotBeliefs$TongueReader", name := "takes", desc := "(Ljava/lang/String;)Z" } : Jvm.MethodName)) ∈ lw_tbl := lw_at lw_m6 229 rfl
theorem q1554 : (Jvm.Cond.instanceMethod ({ cls := "LotBeliefs$TongueReader", name := "takes", desc := "(Ljava/lang/String;)Z" } : Jvm.MethodName)) ∈ lw_all := lw_g (lw_at lw_m6 230 rfl) rfl
theorem q1555 : (Jvm.Cond.code ({ cls := "LotBeliefs$TongueReader", name := "takes", desc := "(Ljava/lang/String;)Z" } : Jvm.MethodName) prog_16_method_6_code (2 : Nat) (Option.some Jvm.ClassFile.FieldType.boolean)) ∈ lw_all := lw_g (lw_at lw_m6 231 rfl) rfl
theorem q1556 : (Jvm.Cond.stringRef "LotBeliefs$TongueReader" (107 : Nat) "or") ∈ lw_tbl := lw_at lw_m6 232 rfl
theorem q2722 : (Jvm.Cond.castable "LotBeliefs$TongueReader" "java/lang/Object") ∈ lw_tbl := lw_at lw_m11 198 rfl

def RX11 : String := "LotBeliefs$Ground"
abbrev cX11_init : ByteArray := prog_3_method_1_code
def yX11_init : MethodName := ⟨RX11, "<init>", "()V"⟩
theorem dX11_init_0 : decode cX11_init 0 = .ok (.aload_n 0, 1) := by decide +kernel
theorem dX11_init_1 : decode cX11_init 1 = .ok (.invokespecial 1, 3) := by decide +kernel
theorem dX11_init_4 : decode cX11_init 4 = .ok (.return_, 1) := by decide +kernel
theorem q156 : (Jvm.Cond.initialized "LotBeliefs$Ground") ∈ lw_all := lw_g (lw_at lw_m1 32 rfl) rfl
theorem q879 : (Jvm.Cond.declares ({ cls := "LotBeliefs$Ground", name := "isSo", desc := "([I)Z" } : Jvm.MethodName)) ∈ lw_tbl := lw_at lw_m4 35 rfl
theorem q880 : (Jvm.Cond.sameMethod "LotBeliefs$Ground" "LotBeliefs$Ground" "isSo" "([I)Z") ∈ lw_all := lw_g (lw_at lw_m4 36 rfl) rfl
theorem q1399 : (Jvm.Cond.instanceMethod ({ cls := "LotBeliefs$Ground", name := "<init>", desc := "()V" } : Jvm.MethodName)) ∈ lw_all := lw_g (lw_at lw_m6 75 rfl) rfl
theorem q1400 : (Jvm.Cond.code ({ cls := "LotBeliefs$Ground", name := "<init>", desc := "()V" } : Jvm.MethodName) prog_3_method_1_code (1 : Nat) (Option.none : Option Jvm.ClassFile.FieldType)) ∈ lw_all := lw_g (lw_at lw_m6 76 rfl) rfl
theorem q1401 : (Jvm.Cond.methodLink "LotBeliefs$Ground" (1 : Nat) ({ cls := "java/lang/Object", name := "<init>", desc := "()V" } : Jvm.MethodName)) ∈ lw_all := lw_g (lw_at lw_m6 77 rfl) rfl

abbrev cX12_isSo : ByteArray := prog_12_method_2_code
def yX12_isSo : MethodName := ⟨RX12, "isSo", "([I)Z"⟩
def dkwX12_isSo_2 : List UInt8 := [132, 2, 1, 167, 255, 207, 42, 180, 0, 18, 172]
abbrev dktX12_isSo_2 : List UInt8 := dkwX12_isSo_2 ++ []
def dkwX12_isSo_1 : List UInt8 := [43, 182, 0, 30, 42, 180, 0, 18, 159, 0, 16, 42, 180, 0, 18, 154, 0, 7, 4, 167, 0, 4, 3, 172]
abbrev dktX12_isSo_1 : List UInt8 := dkwX12_isSo_1 ++ dktX12_isSo_2
def dkwX12_isSo_0 : List UInt8 := [3, 61, 28, 42, 180, 0, 12, 182, 0, 22, 162, 0, 44, 42, 180, 0, 12, 28, 182, 0, 26, 192, 0, 2]
abbrev dktX12_isSo_0 : List UInt8 := dkwX12_isSo_0 ++ dktX12_isSo_1
theorem dksX12_isSo_0 : cX12_isSo.data.toList.drop 0 = dktX12_isSo_0 := by decide +kernel
theorem dksX12_isSo_1 : cX12_isSo.data.toList.drop 24 = dktX12_isSo_1 := dk_seg dksX12_isSo_0 24 rfl rfl
theorem dksX12_isSo_2 : cX12_isSo.data.toList.drop 48 = dktX12_isSo_2 := dk_seg dksX12_isSo_1 24 rfl rfl
theorem dX12_isSo_0 : decode cX12_isSo 0 = .ok (.iconst 0, 1) := dk_3 (dk_at dksX12_isSo_0 0 rfl rfl)
theorem dX12_isSo_1 : decode cX12_isSo 1 = .ok (.istore_n 2, 1) := dk_61 (dk_at dksX12_isSo_0 1 rfl rfl)
theorem dX12_isSo_2 : decode cX12_isSo 2 = .ok (.iload_n 2, 1) := dk_28 (dk_at dksX12_isSo_0 2 rfl rfl)
theorem dX12_isSo_3 : decode cX12_isSo 3 = .ok (.aload_n 0, 1) := dk_42 (dk_at dksX12_isSo_0 3 rfl rfl)
theorem dX12_isSo_4 : decode cX12_isSo 4 = .ok (.getfield 12, 3) := dk_180 0 12 (dk_at dksX12_isSo_0 4 rfl rfl)
theorem dX12_isSo_7 : decode cX12_isSo 7 = .ok (.invokevirtual 22, 3) := dk_182 0 22 (dk_at dksX12_isSo_0 7 rfl rfl)
theorem dX12_isSo_10 : decode cX12_isSo 10 = .ok (.if_icmp .ge 44, 3) := dk_162 0 44 (dk_at dksX12_isSo_0 10 rfl rfl)
theorem dX12_isSo_13 : decode cX12_isSo 13 = .ok (.aload_n 0, 1) := dk_42 (dk_at dksX12_isSo_0 13 rfl rfl)
theorem dX12_isSo_14 : decode cX12_isSo 14 = .ok (.getfield 12, 3) := dk_180 0 12 (dk_at dksX12_isSo_0 14 rfl rfl)
theorem dX12_isSo_17 : decode cX12_isSo 17 = .ok (.iload_n 2, 1) := dk_28 (dk_at dksX12_isSo_0 17 rfl rfl)
theorem dX12_isSo_18 : decode cX12_isSo 18 = .ok (.invokevirtual 26, 3) := dk_182 0 26 (dk_at dksX12_isSo_0 18 rfl rfl)
theorem dX12_isSo_21 : decode cX12_isSo 21 = .ok (.checkcast 2, 3) := dk_192 0 2 (dk_at dksX12_isSo_0 21 rfl rfl)
theorem dX12_isSo_24 : decode cX12_isSo 24 = .ok (.aload_n 1, 1) := dk_43 (dk_at dksX12_isSo_1 0 rfl rfl)
theorem dX12_isSo_25 : decode cX12_isSo 25 = .ok (.invokevirtual 30, 3) := dk_182 0 30 (dk_at dksX12_isSo_1 1 rfl rfl)
theorem dX12_isSo_28 : decode cX12_isSo 28 = .ok (.aload_n 0, 1) := dk_42 (dk_at dksX12_isSo_1 4 rfl rfl)
theorem dX12_isSo_29 : decode cX12_isSo 29 = .ok (.getfield 18, 3) := dk_180 0 18 (dk_at dksX12_isSo_1 5 rfl rfl)
theorem dX12_isSo_32 : decode cX12_isSo 32 = .ok (.if_icmp .eq 16, 3) := dk_159 0 16 (dk_at dksX12_isSo_1 8 rfl rfl)
theorem dX12_isSo_35 : decode cX12_isSo 35 = .ok (.aload_n 0, 1) := dk_42 (dk_at dksX12_isSo_1 11 rfl rfl)
theorem dX12_isSo_36 : decode cX12_isSo 36 = .ok (.getfield 18, 3) := dk_180 0 18 (dk_at dksX12_isSo_1 12 rfl rfl)
theorem dX12_isSo_39 : decode cX12_isSo 39 = .ok (.ifCond .ne 7, 3) := dk_154 0 7 (dk_at dksX12_isSo_1 15 rfl rfl)
theorem dX12_isSo_42 : decode cX12_isSo 42 = .ok (.iconst 1, 1) := dk_4 (dk_at dksX12_isSo_1 18 rfl rfl)
theorem dX12_isSo_43 : decode cX12_isSo 43 = .ok (.goto 4, 3) := dk_167 0 4 (dk_at dksX12_isSo_1 19 rfl rfl)
theorem dX12_isSo_46 : decode cX12_isSo 46 = .ok (.iconst 0, 1) := dk_3 (dk_at dksX12_isSo_1 22 rfl rfl)
theorem dX12_isSo_47 : decode cX12_isSo 47 = .ok (.ireturn, 1) := dk_172 (dk_at dksX12_isSo_1 23 rfl rfl)
theorem dX12_isSo_48 : decode cX12_isSo 48 = .ok (.iinc 2 1, 3) := dk_132 2 1 (dk_at dksX12_isSo_2 0 rfl rfl)
theorem dX12_isSo_51 : decode cX12_isSo 51 = .ok (.goto (-49), 3) := dk_167 255 207 (dk_at dksX12_isSo_2 3 rfl rfl)
theorem dX12_isSo_54 : decode cX12_isSo 54 = .ok (.aload_n 0, 1) := dk_42 (dk_at dksX12_isSo_2 6 rfl rfl)
theorem dX12_isSo_55 : decode cX12_isSo 55 = .ok (.getfield 18, 3) := dk_180 0 18 (dk_at dksX12_isSo_2 7 rfl rfl)
theorem dX12_isSo_58 : decode cX12_isSo 58 = .ok (.ireturn, 1) := dk_172 (dk_at dksX12_isSo_2 10 rfl rfl)
abbrev cX12_init : ByteArray := prog_12_method_1_code
def yX12_init : MethodName := ⟨RX12, "<init>", "(Z)V"⟩
def dkwX12_init_0 : List UInt8 := [42, 183, 0, 1, 42, 187, 0, 7, 89, 4, 183, 0, 9, 181, 0, 12, 42, 27, 181, 0, 18, 177]
abbrev dktX12_init_0 : List UInt8 := dkwX12_init_0 ++ []
theorem dksX12_init_0 : cX12_init.data.toList.drop 0 = dktX12_init_0 := by decide +kernel
theorem dX12_init_0 : decode cX12_init 0 = .ok (.aload_n 0, 1) := dk_42 (dk_at dksX12_init_0 0 rfl rfl)
theorem dX12_init_1 : decode cX12_init 1 = .ok (.invokespecial 1, 3) := dk_183 0 1 (dk_at dksX12_init_0 1 rfl rfl)
theorem dX12_init_4 : decode cX12_init 4 = .ok (.aload_n 0, 1) := dk_42 (dk_at dksX12_init_0 4 rfl rfl)
theorem dX12_init_5 : decode cX12_init 5 = .ok (.new 7, 3) := dk_187 0 7 (dk_at dksX12_init_0 5 rfl rfl)
theorem dX12_init_8 : decode cX12_init 8 = .ok (.dup, 1) := dk_89 (dk_at dksX12_init_0 8 rfl rfl)
theorem dX12_init_9 : decode cX12_init 9 = .ok (.iconst 1, 1) := dk_4 (dk_at dksX12_init_0 9 rfl rfl)
theorem dX12_init_10 : decode cX12_init 10 = .ok (.invokespecial 9, 3) := dk_183 0 9 (dk_at dksX12_init_0 10 rfl rfl)
theorem dX12_init_13 : decode cX12_init 13 = .ok (.putfield 12, 3) := dk_181 0 12 (dk_at dksX12_init_0 13 rfl rfl)
theorem dX12_init_16 : decode cX12_init 16 = .ok (.aload_n 0, 1) := dk_42 (dk_at dksX12_init_0 16 rfl rfl)
theorem dX12_init_17 : decode cX12_init 17 = .ok (.iload_n 1, 1) := dk_27 (dk_at dksX12_init_0 17 rfl rfl)
theorem dX12_init_18 : decode cX12_init 18 = .ok (.putfield 18, 3) := dk_181 0 18 (dk_at dksX12_init_0 18 rfl rfl)
theorem dX12_init_21 : decode cX12_init 21 = .ok (.return_, 1) := dk_177 (dk_at dksX12_init_0 21 rfl rfl)
theorem q157 : (Jvm.Cond.initialized "LotBeliefs$Some") ∈ lw_all := lw_g (lw_at lw_m1 33 rfl) rfl
theorem q909 : (Jvm.Cond.instanceMethod ({ cls := "LotBeliefs$Some", name := "isSo", desc := "([I)Z" } : Jvm.MethodName)) ∈ lw_all := lw_g (lw_at lw_m4 65 rfl) rfl
theorem q910 : (Jvm.Cond.code ({ cls := "LotBeliefs$Some", name := "isSo", desc := "([I)Z" } : Jvm.MethodName) prog_12_method_2_code (3 : Nat) (Option.some Jvm.ClassFile.FieldType.boolean)) ∈ lw_all := lw_g (lw_at lw_m4 66 rfl) rfl
theorem q911 : (Jvm.Cond.methodLink "LotBeliefs$Some" (22 : Nat) ({ cls := "java/util/ArrayList", name := "size", desc := "()I" } : Jvm.MethodName)) ∈ lw_all := lw_g (lw_at lw_m4 67 rfl) rfl
theorem q912 : (Jvm.Cond.methodLink "LotBeliefs$Some" (26 : Nat) ({ cls := "java/util/ArrayList", name := "get", desc := "(I)Ljava/lang/Object;" } : Jvm.MethodName)) ∈ lw_all := lw_g (lw_at lw_m4 68 rfl) rfl
theorem q913 : (Jvm.Cond.classLink "LotBeliefs$Some" (2 : Nat) "LotBeliefs$Ground") ∈ lw_all := lw_g (lw_at lw_m4 69 rfl) rfl
theorem q914 : (Jvm.Cond.methodLink "LotBeliefs$Some" (30 : Nat) ({ cls := "LotBeliefs$Ground", name := "isSo", desc := "([I)Z" } : Jvm.MethodName)) ∈ lw_all := lw_g (lw_at lw_m4 70 rfl) rfl
theorem q915 : (Jvm.Cond.selects "LotBeliefs$Some" ({ cls := "LotBeliefs$Ground", name := "isSo", desc := "([I)Z" } : Jvm.MethodName) ({ cls := "LotBeliefs$Some", name := "isSo", desc := "([I)Z" } : Jvm.MethodName)) ∈ lw_all := lw_g (lw_at lw_m4 71 rfl) rfl
theorem q1295 : (Jvm.Cond.selects "LotBeliefs$Some" ({ cls := "java/lang/Object", name := "getClass", desc := "()Ljava/lang/Class;" } : Jvm.MethodName) ({ cls := "java/lang/Object", name := "getClass", desc := "()Ljava/lang/Class;" } : Jvm.MethodName)) ∈ lw_all := lw_g (lw_at lw_m5 211 rfl) rfl
theorem q1394 : (Jvm.Cond.instantiable "LotBeliefs$Some" (2 : Nat)) ∈ lw_all := lw_g (lw_at lw_m6 70 rfl) rfl
theorem q1396 : (Jvm.Cond.instanceMethod ({ cls := "LotBeliefs$Some", name := "<init>", desc := "(Z)V" } : Jvm.MethodName)) ∈ lw_all := lw_g (lw_at lw_m6 72 rfl) rfl
theorem q1397 : (Jvm.Cond.code ({ cls := "LotBeliefs$Some", name := "<init>", desc := "(Z)V" } : Jvm.MethodName) prog_12_method_1_code (2 : Nat) (Option.none : Option Jvm.ClassFile.FieldType)) ∈ lw_all := lw_g (lw_at lw_m6 73 rfl) rfl
theorem q1398 : (Jvm.Cond.methodLinkNest "LotBeliefs$Some" (1 : Nat) ({ cls := "LotBeliefs$Ground", name := "<init>", desc := "()V" } : Jvm.MethodName) "LotBeliefs") ∈ lw_tbl := lw_at lw_m6 74 rfl
theorem q1402 : (Jvm.Cond.classLink "LotBeliefs$Some" (7 : Nat) "java/util/ArrayList") ∈ lw_all := lw_g (lw_at lw_m6 78 rfl) rfl
theorem q1403 : (Jvm.Cond.methodLink "LotBeliefs$Some" (9 : Nat) ({ cls := "java/util/ArrayList", name := "<init>", desc := "(I)V" } : Jvm.MethodName)) ∈ lw_all := lw_g (lw_at lw_m6 79 rfl) rfl
theorem q1404 : (Jvm.Cond.fieldLink "LotBeliefs$Some" (18 : Nat) "LotBeliefs$Some" "all" "Z") ∈ lw_all := lw_g (lw_at lw_m6 80 rfl) rfl
theorem q1405 : (Jvm.Cond.fieldLink "LotBeliefs$Some" (12 : Nat) "LotBeliefs$Some" "grounds" "Ljava/util/ArrayList;") ∈ lw_all := lw_g (lw_at lw_m6 81 rfl) rfl
theorem q1407 : (Jvm.Cond.laysFinal "LotBeliefs$Some" "LotBeliefs$Some" "all" "Z") ∈ lw_all := lw_g (lw_at lw_m6 83 rfl) rfl
theorem q1408 : (Jvm.Cond.soleField "LotBeliefs$Some" "all") ∈ lw_all := lw_g (lw_at lw_m6 84 rfl) rfl
theorem q1409 : (Jvm.Cond.laysFinal "LotBeliefs$Some" "LotBeliefs$Some" "grounds" "Ljava/util/ArrayList;") ∈ lw_all := lw_g (lw_at lw_m6 85 rfl) rfl
theorem q1410 : (Jvm.Cond.soleField "LotBeliefs$Some" "grounds") ∈ lw_all := lw_g (lw_at lw_m6 86 rfl) rfl
theorem q1411 : (Jvm.Cond.superclass "LotBeliefs$Some" "LotBeliefs$Ground") ∈ lw_all := lw_g (lw_at lw_m6 87 rfl) rfl
theorem q2704 : (Jvm.Cond.castable "LotBeliefs$Some" "LotBeliefs$Ground") ∈ lw_tbl := lw_at lw_m11 180 rfl
theorem q2723 : (Jvm.Cond.castable "LotBeliefs$Some" "java/lang/Object") ∈ lw_tbl := lw_at lw_m11 199 rfl

abbrev cX13_isSo : ByteArray := prog_6_method_2_code
def yX13_isSo : MethodName := ⟨RX13, "isSo", "([I)Z"⟩
def dkwX13_isSo_0 : List UInt8 := [42, 180, 0, 7, 43, 182, 0, 13, 154, 0, 7, 4, 167, 0, 4, 3, 172]
abbrev dktX13_isSo_0 : List UInt8 := dkwX13_isSo_0 ++ []
theorem dksX13_isSo_0 : cX13_isSo.data.toList.drop 0 = dktX13_isSo_0 := by decide +kernel
theorem dX13_isSo_0 : decode cX13_isSo 0 = .ok (.aload_n 0, 1) := dk_42 (dk_at dksX13_isSo_0 0 rfl rfl)
theorem dX13_isSo_1 : decode cX13_isSo 1 = .ok (.getfield 7, 3) := dk_180 0 7 (dk_at dksX13_isSo_0 1 rfl rfl)
theorem dX13_isSo_4 : decode cX13_isSo 4 = .ok (.aload_n 1, 1) := dk_43 (dk_at dksX13_isSo_0 4 rfl rfl)
theorem dX13_isSo_5 : decode cX13_isSo 5 = .ok (.invokevirtual 13, 3) := dk_182 0 13 (dk_at dksX13_isSo_0 5 rfl rfl)
theorem dX13_isSo_8 : decode cX13_isSo 8 = .ok (.ifCond .ne 7, 3) := dk_154 0 7 (dk_at dksX13_isSo_0 8 rfl rfl)
theorem dX13_isSo_11 : decode cX13_isSo 11 = .ok (.iconst 1, 1) := dk_4 (dk_at dksX13_isSo_0 11 rfl rfl)
theorem dX13_isSo_12 : decode cX13_isSo 12 = .ok (.goto 4, 3) := dk_167 0 4 (dk_at dksX13_isSo_0 12 rfl rfl)
theorem dX13_isSo_15 : decode cX13_isSo 15 = .ok (.iconst 0, 1) := dk_3 (dk_at dksX13_isSo_0 15 rfl rfl)
theorem dX13_isSo_16 : decode cX13_isSo 16 = .ok (.ireturn, 1) := dk_172 (dk_at dksX13_isSo_0 16 rfl rfl)
abbrev cX13_init : ByteArray := prog_6_method_1_code
def yX13_init : MethodName := ⟨RX13, "<init>", "(LLotBeliefs$Ground;)V"⟩
def dkwX13_init_0 : List UInt8 := [42, 183, 0, 1, 42, 43, 181, 0, 7, 177]
abbrev dktX13_init_0 : List UInt8 := dkwX13_init_0 ++ []
theorem dksX13_init_0 : cX13_init.data.toList.drop 0 = dktX13_init_0 := by decide +kernel
theorem dX13_init_0 : decode cX13_init 0 = .ok (.aload_n 0, 1) := dk_42 (dk_at dksX13_init_0 0 rfl rfl)
theorem dX13_init_1 : decode cX13_init 1 = .ok (.invokespecial 1, 3) := dk_183 0 1 (dk_at dksX13_init_0 1 rfl rfl)
theorem dX13_init_4 : decode cX13_init 4 = .ok (.aload_n 0, 1) := dk_42 (dk_at dksX13_init_0 4 rfl rfl)
theorem dX13_init_5 : decode cX13_init 5 = .ok (.aload_n 1, 1) := dk_43 (dk_at dksX13_init_0 5 rfl rfl)
theorem dX13_init_6 : decode cX13_init 6 = .ok (.putfield 7, 3) := dk_181 0 7 (dk_at dksX13_init_0 6 rfl rfl)
theorem dX13_init_9 : decode cX13_init 9 = .ok (.return_, 1) := dk_177 (dk_at dksX13_init_0 9 rfl rfl)
theorem q158 : (Jvm.Cond.initialized "LotBeliefs$Never") ∈ lw_all := lw_g (lw_at lw_m1 34 rfl) rfl
theorem q905 : (Jvm.Cond.selects "LotBeliefs$Never" ({ cls := "LotBeliefs$Ground", name := "isSo", desc := "([I)Z" } : Jvm.MethodName) ({ cls := "LotBeliefs$Never", name := "isSo", desc := "([I)Z" } : Jvm.MethodName)) ∈ lw_all := lw_g (lw_at lw_m4 61 rfl) rfl
theorem q906 : (Jvm.Cond.instanceMethod ({ cls := "LotBeliefs$Never", name := "isSo", desc := "([I)Z" } : Jvm.MethodName)) ∈ lw_all := lw_g (lw_at lw_m4 62 rfl) rfl
theorem q907 : (Jvm.Cond.code ({ cls := "LotBeliefs$Never", name := "isSo", desc := "([I)Z" } : Jvm.MethodName) prog_6_method_2_code (2 : Nat) (Option.some Jvm.ClassFile.FieldType.boolean)) ∈ lw_all := lw_g (lw_at lw_m4 63 rfl) rfl
theorem q908 : (Jvm.Cond.methodLink "LotBeliefs$Never" (13 : Nat) ({ cls := "LotBeliefs$Ground", name := "isSo", desc := "([I)Z" } : Jvm.MethodName)) ∈ lw_all := lw_g (lw_at lw_m4 64 rfl) rfl
theorem q1289 : (Jvm.Cond.selects "LotBeliefs$Never" ({ cls := "java/lang/Object", name := "getClass", desc := "()Ljava/lang/Class;" } : Jvm.MethodName) ({ cls := "java/lang/Object", name := "getClass", desc := "()Ljava/lang/Class;" } : Jvm.MethodName)) ∈ lw_all := lw_g (lw_at lw_m5 205 rfl) rfl
theorem q1426 : (Jvm.Cond.instantiable "LotBeliefs$Never" (1 : Nat)) ∈ lw_all := lw_g (lw_at lw_m6 102 rfl) rfl
theorem q1428 : (Jvm.Cond.instanceMethod ({ cls := "LotBeliefs$Never", name := "<init>", desc := "(LLotBeliefs$Ground;)V" } : Jvm.MethodName)) ∈ lw_all := lw_g (lw_at lw_m6 104 rfl) rfl
theorem q1429 : (Jvm.Cond.code ({ cls := "LotBeliefs$Never", name := "<init>", desc := "(LLotBeliefs$Ground;)V" } : Jvm.MethodName) prog_6_method_1_code (2 : Nat) (Option.none : Option Jvm.ClassFile.FieldType)) ∈ lw_all := lw_g (lw_at lw_m6 105 rfl) rfl
theorem q1430 : (Jvm.Cond.methodLinkNest "LotBeliefs$Never" (1 : Nat) ({ cls := "LotBeliefs$Ground", name := "<init>", desc := "()V" } : Jvm.MethodName) "LotBeliefs") ∈ lw_tbl := lw_at lw_m6 106 rfl
theorem q1431 : (Jvm.Cond.fieldLink "LotBeliefs$Never" (7 : Nat) "LotBeliefs$Never" "a" "LLotBeliefs$Ground;") ∈ lw_all := lw_g (lw_at lw_m6 107 rfl) rfl
theorem q1432 : (Jvm.Cond.laysFinal "LotBeliefs$Never" "LotBeliefs$Never" "a" "LLotBeliefs$Ground;") ∈ lw_all := lw_g (lw_at lw_m6 108 rfl) rfl
theorem q1433 : (Jvm.Cond.soleField "LotBeliefs$Never" "a") ∈ lw_all := lw_g (lw_at lw_m6 109 rfl) rfl
theorem q1434 : (Jvm.Cond.superclass "LotBeliefs$Never" "LotBeliefs$Ground") ∈ lw_all := lw_g (lw_at lw_m6 110 rfl) rfl
theorem q2703 : (Jvm.Cond.castable "LotBeliefs$Never" "LotBeliefs$Ground") ∈ lw_tbl := lw_at lw_m11 179 rfl
theorem q2724 : (Jvm.Cond.castable "LotBeliefs$Never" "java/lang/Object") ∈ lw_tbl := lw_at lw_m11 200 rfl

def RX14 : String := "LotBeliefs$Term"
abbrev cX14_init : ByteArray := prog_14_method_1_code
def yX14_init : MethodName := ⟨RX14, "<init>", "()V"⟩
theorem dX14_init_0 : decode cX14_init 0 = .ok (.aload_n 0, 1) := by decide +kernel
theorem dX14_init_1 : decode cX14_init 1 = .ok (.invokespecial 1, 3) := by decide +kernel
theorem dX14_init_4 : decode cX14_init 4 = .ok (.return_, 1) := by decide +kernel
theorem q159 : (Jvm.Cond.initialized "LotBeliefs$Term") ∈ lw_all := lw_g (lw_at lw_m1 35 rfl) rfl
theorem q885 : (Jvm.Cond.declares ({ cls := "LotBeliefs$Term", name := "of", desc := "([I)I" } : Jvm.MethodName)) ∈ lw_tbl := lw_at lw_m4 41 rfl
theorem q886 : (Jvm.Cond.sameMethod "LotBeliefs$Term" "LotBeliefs$Term" "of" "([I)I") ∈ lw_all := lw_g (lw_at lw_m4 42 rfl) rfl
theorem q1464 : (Jvm.Cond.instanceMethod ({ cls := "LotBeliefs$Term", name := "<init>", desc := "()V" } : Jvm.MethodName)) ∈ lw_all := lw_g (lw_at lw_m6 140 rfl) rfl
theorem q1465 : (Jvm.Cond.code ({ cls := "LotBeliefs$Term", name := "<init>", desc := "()V" } : Jvm.MethodName) prog_14_method_1_code (1 : Nat) (Option.none : Option Jvm.ClassFile.FieldType)) ∈ lw_all := lw_g (lw_at lw_m6 141 rfl) rfl
theorem q1466 : (Jvm.Cond.methodLink "LotBeliefs$Term" (1 : Nat) ({ cls := "java/lang/Object", name := "<init>", desc := "()V" } : Jvm.MethodName)) ∈ lw_all := lw_g (lw_at lw_m6 142 rfl) rfl

abbrev cX15_of : ByteArray := prog_9_method_3_code
def yX15_of : MethodName := ⟨RX15, "of", "([I)I"⟩
def dkwX15_of_4 : List UInt8 := [21, 4, 100, 167, 0, 7, 28, 21, 4, 104, 61, 132, 3, 1, 167, 255, 168, 28, 172]
abbrev dktX15_of_4 : List UInt8 := dkwX15_of_4 ++ []
def dkwX15_of_3 : List UInt8 := [167, 0, 33, 42, 180, 0, 18, 29, 182, 0, 34, 192, 0, 26, 182, 0, 46, 16, 45, 160, 0, 10, 28]
abbrev dktX15_of_3 : List UInt8 := dkwX15_of_3 ++ dktX15_of_4
def dkwX15_of_2 : List UInt8 := [180, 0, 18, 29, 182, 0, 34, 192, 0, 26, 182, 0, 46, 16, 43, 160, 0, 10, 28, 21, 4, 96]
abbrev dktX15_of_2 : List UInt8 := dkwX15_of_2 ++ dktX15_of_3
def dkwX15_of_1 : List UInt8 := [182, 0, 42, 162, 0, 83, 42, 180, 0, 12, 29, 182, 0, 34, 192, 0, 2, 43, 182, 0, 38, 54, 4, 42]
abbrev dktX15_of_1 : List UInt8 := dkwX15_of_1 ++ dktX15_of_2
def dkwX15_of_0 : List UInt8 := [42, 180, 0, 12, 3, 182, 0, 34, 192, 0, 2, 43, 182, 0, 38, 61, 4, 62, 29, 42, 180, 0, 12]
abbrev dktX15_of_0 : List UInt8 := dkwX15_of_0 ++ dktX15_of_1
theorem dksX15_of_0 : cX15_of.data.toList.drop 0 = dktX15_of_0 := by decide +kernel
theorem dksX15_of_1 : cX15_of.data.toList.drop 23 = dktX15_of_1 := dk_seg dksX15_of_0 23 rfl rfl
theorem dksX15_of_2 : cX15_of.data.toList.drop 47 = dktX15_of_2 := dk_seg dksX15_of_1 24 rfl rfl
theorem dksX15_of_3 : cX15_of.data.toList.drop 69 = dktX15_of_3 := dk_seg dksX15_of_2 22 rfl rfl
theorem dksX15_of_4 : cX15_of.data.toList.drop 92 = dktX15_of_4 := dk_seg dksX15_of_3 23 rfl rfl
theorem dX15_of_0 : decode cX15_of 0 = .ok (.aload_n 0, 1) := dk_42 (dk_at dksX15_of_0 0 rfl rfl)
theorem dX15_of_1 : decode cX15_of 1 = .ok (.getfield 12, 3) := dk_180 0 12 (dk_at dksX15_of_0 1 rfl rfl)
theorem dX15_of_4 : decode cX15_of 4 = .ok (.iconst 0, 1) := dk_3 (dk_at dksX15_of_0 4 rfl rfl)
theorem dX15_of_5 : decode cX15_of 5 = .ok (.invokevirtual 34, 3) := dk_182 0 34 (dk_at dksX15_of_0 5 rfl rfl)
theorem dX15_of_8 : decode cX15_of 8 = .ok (.checkcast 2, 3) := dk_192 0 2 (dk_at dksX15_of_0 8 rfl rfl)
theorem dX15_of_11 : decode cX15_of 11 = .ok (.aload_n 1, 1) := dk_43 (dk_at dksX15_of_0 11 rfl rfl)
theorem dX15_of_12 : decode cX15_of 12 = .ok (.invokevirtual 38, 3) := dk_182 0 38 (dk_at dksX15_of_0 12 rfl rfl)
theorem dX15_of_15 : decode cX15_of 15 = .ok (.istore_n 2, 1) := dk_61 (dk_at dksX15_of_0 15 rfl rfl)
theorem dX15_of_16 : decode cX15_of 16 = .ok (.iconst 1, 1) := dk_4 (dk_at dksX15_of_0 16 rfl rfl)
theorem dX15_of_17 : decode cX15_of 17 = .ok (.istore_n 3, 1) := dk_62 (dk_at dksX15_of_0 17 rfl rfl)
theorem dX15_of_18 : decode cX15_of 18 = .ok (.iload_n 3, 1) := dk_29 (dk_at dksX15_of_0 18 rfl rfl)
theorem dX15_of_19 : decode cX15_of 19 = .ok (.aload_n 0, 1) := dk_42 (dk_at dksX15_of_0 19 rfl rfl)
theorem dX15_of_20 : decode cX15_of 20 = .ok (.getfield 12, 3) := dk_180 0 12 (dk_at dksX15_of_0 20 rfl rfl)
theorem dX15_of_23 : decode cX15_of 23 = .ok (.invokevirtual 42, 3) := dk_182 0 42 (dk_at dksX15_of_1 0 rfl rfl)
theorem dX15_of_26 : decode cX15_of 26 = .ok (.if_icmp .ge 83, 3) := dk_162 0 83 (dk_at dksX15_of_1 3 rfl rfl)
theorem dX15_of_29 : decode cX15_of 29 = .ok (.aload_n 0, 1) := dk_42 (dk_at dksX15_of_1 6 rfl rfl)
theorem dX15_of_30 : decode cX15_of 30 = .ok (.getfield 12, 3) := dk_180 0 12 (dk_at dksX15_of_1 7 rfl rfl)
theorem dX15_of_33 : decode cX15_of 33 = .ok (.iload_n 3, 1) := dk_29 (dk_at dksX15_of_1 10 rfl rfl)
theorem dX15_of_34 : decode cX15_of 34 = .ok (.invokevirtual 34, 3) := dk_182 0 34 (dk_at dksX15_of_1 11 rfl rfl)
theorem dX15_of_37 : decode cX15_of 37 = .ok (.checkcast 2, 3) := dk_192 0 2 (dk_at dksX15_of_1 14 rfl rfl)
theorem dX15_of_40 : decode cX15_of 40 = .ok (.aload_n 1, 1) := dk_43 (dk_at dksX15_of_1 17 rfl rfl)
theorem dX15_of_41 : decode cX15_of 41 = .ok (.invokevirtual 38, 3) := dk_182 0 38 (dk_at dksX15_of_1 18 rfl rfl)
theorem dX15_of_44 : decode cX15_of 44 = .ok (.istore 4, 2) := dk_54 4 (dk_at dksX15_of_1 21 rfl rfl)
theorem dX15_of_46 : decode cX15_of 46 = .ok (.aload_n 0, 1) := dk_42 (dk_at dksX15_of_1 23 rfl rfl)
theorem dX15_of_47 : decode cX15_of 47 = .ok (.getfield 18, 3) := dk_180 0 18 (dk_at dksX15_of_2 0 rfl rfl)
theorem dX15_of_50 : decode cX15_of 50 = .ok (.iload_n 3, 1) := dk_29 (dk_at dksX15_of_2 3 rfl rfl)
theorem dX15_of_51 : decode cX15_of 51 = .ok (.invokevirtual 34, 3) := dk_182 0 34 (dk_at dksX15_of_2 4 rfl rfl)
theorem dX15_of_54 : decode cX15_of 54 = .ok (.checkcast 26, 3) := dk_192 0 26 (dk_at dksX15_of_2 7 rfl rfl)
theorem dX15_of_57 : decode cX15_of 57 = .ok (.invokevirtual 46, 3) := dk_182 0 46 (dk_at dksX15_of_2 10 rfl rfl)
theorem dX15_of_60 : decode cX15_of 60 = .ok (.bipush 43, 2) := dk_16 43 (dk_at dksX15_of_2 13 rfl rfl)
theorem dX15_of_62 : decode cX15_of 62 = .ok (.if_icmp .ne 10, 3) := dk_160 0 10 (dk_at dksX15_of_2 15 rfl rfl)
theorem dX15_of_65 : decode cX15_of 65 = .ok (.iload_n 2, 1) := dk_28 (dk_at dksX15_of_2 18 rfl rfl)
theorem dX15_of_66 : decode cX15_of 66 = .ok (.iload 4, 2) := dk_21 4 (dk_at dksX15_of_2 19 rfl rfl)
theorem dX15_of_68 : decode cX15_of 68 = .ok (.iadd, 1) := dk_96 (dk_at dksX15_of_2 21 rfl rfl)
theorem dX15_of_69 : decode cX15_of 69 = .ok (.goto 33, 3) := dk_167 0 33 (dk_at dksX15_of_3 0 rfl rfl)
theorem dX15_of_72 : decode cX15_of 72 = .ok (.aload_n 0, 1) := dk_42 (dk_at dksX15_of_3 3 rfl rfl)
theorem dX15_of_73 : decode cX15_of 73 = .ok (.getfield 18, 3) := dk_180 0 18 (dk_at dksX15_of_3 4 rfl rfl)
theorem dX15_of_76 : decode cX15_of 76 = .ok (.iload_n 3, 1) := dk_29 (dk_at dksX15_of_3 7 rfl rfl)
theorem dX15_of_77 : decode cX15_of 77 = .ok (.invokevirtual 34, 3) := dk_182 0 34 (dk_at dksX15_of_3 8 rfl rfl)
theorem dX15_of_80 : decode cX15_of 80 = .ok (.checkcast 26, 3) := dk_192 0 26 (dk_at dksX15_of_3 11 rfl rfl)
theorem dX15_of_83 : decode cX15_of 83 = .ok (.invokevirtual 46, 3) := dk_182 0 46 (dk_at dksX15_of_3 14 rfl rfl)
theorem dX15_of_86 : decode cX15_of 86 = .ok (.bipush 45, 2) := dk_16 45 (dk_at dksX15_of_3 17 rfl rfl)
theorem dX15_of_88 : decode cX15_of 88 = .ok (.if_icmp .ne 10, 3) := dk_160 0 10 (dk_at dksX15_of_3 19 rfl rfl)
theorem dX15_of_91 : decode cX15_of 91 = .ok (.iload_n 2, 1) := dk_28 (dk_at dksX15_of_3 22 rfl rfl)
theorem dX15_of_92 : decode cX15_of 92 = .ok (.iload 4, 2) := dk_21 4 (dk_at dksX15_of_4 0 rfl rfl)
theorem dX15_of_94 : decode cX15_of 94 = .ok (.isub, 1) := dk_100 (dk_at dksX15_of_4 2 rfl rfl)
theorem dX15_of_95 : decode cX15_of 95 = .ok (.goto 7, 3) := dk_167 0 7 (dk_at dksX15_of_4 3 rfl rfl)
theorem dX15_of_98 : decode cX15_of 98 = .ok (.iload_n 2, 1) := dk_28 (dk_at dksX15_of_4 6 rfl rfl)
theorem dX15_of_99 : decode cX15_of 99 = .ok (.iload 4, 2) := dk_21 4 (dk_at dksX15_of_4 7 rfl rfl)
theorem dX15_of_101 : decode cX15_of 101 = .ok (.imul, 1) := dk_104 (dk_at dksX15_of_4 9 rfl rfl)
theorem dX15_of_102 : decode cX15_of 102 = .ok (.istore_n 2, 1) := dk_61 (dk_at dksX15_of_4 10 rfl rfl)
theorem dX15_of_103 : decode cX15_of 103 = .ok (.iinc 3 1, 3) := dk_132 3 1 (dk_at dksX15_of_4 11 rfl rfl)
theorem dX15_of_106 : decode cX15_of 106 = .ok (.goto (-88), 3) := dk_167 255 168 (dk_at dksX15_of_4 14 rfl rfl)
theorem dX15_of_109 : decode cX15_of 109 = .ok (.iload_n 2, 1) := dk_28 (dk_at dksX15_of_4 17 rfl rfl)
theorem dX15_of_110 : decode cX15_of 110 = .ok (.ireturn, 1) := dk_172 (dk_at dksX15_of_4 18 rfl rfl)
abbrev cX15_init : ByteArray := prog_9_method_1_code
def yX15_init : MethodName := ⟨RX15, "<init>", "(LLotBeliefs$Term;)V"⟩
def dkwX15_init_1 : List UInt8 := [183, 0, 9, 181, 0, 18, 42, 16, 43, 43, 182, 0, 21, 177]
abbrev dktX15_init_1 : List UInt8 := dkwX15_init_1 ++ []
def dkwX15_init_0 : List UInt8 := [42, 183, 0, 1, 42, 187, 0, 7, 89, 4, 183, 0, 9, 181, 0, 12, 42, 187, 0, 7, 89, 4]
abbrev dktX15_init_0 : List UInt8 := dkwX15_init_0 ++ dktX15_init_1
theorem dksX15_init_0 : cX15_init.data.toList.drop 0 = dktX15_init_0 := by decide +kernel
theorem dksX15_init_1 : cX15_init.data.toList.drop 22 = dktX15_init_1 := dk_seg dksX15_init_0 22 rfl rfl
theorem dX15_init_0 : decode cX15_init 0 = .ok (.aload_n 0, 1) := dk_42 (dk_at dksX15_init_0 0 rfl rfl)
theorem dX15_init_1 : decode cX15_init 1 = .ok (.invokespecial 1, 3) := dk_183 0 1 (dk_at dksX15_init_0 1 rfl rfl)
theorem dX15_init_4 : decode cX15_init 4 = .ok (.aload_n 0, 1) := dk_42 (dk_at dksX15_init_0 4 rfl rfl)
theorem dX15_init_5 : decode cX15_init 5 = .ok (.new 7, 3) := dk_187 0 7 (dk_at dksX15_init_0 5 rfl rfl)
theorem dX15_init_8 : decode cX15_init 8 = .ok (.dup, 1) := dk_89 (dk_at dksX15_init_0 8 rfl rfl)
theorem dX15_init_9 : decode cX15_init 9 = .ok (.iconst 1, 1) := dk_4 (dk_at dksX15_init_0 9 rfl rfl)
theorem dX15_init_10 : decode cX15_init 10 = .ok (.invokespecial 9, 3) := dk_183 0 9 (dk_at dksX15_init_0 10 rfl rfl)
theorem dX15_init_13 : decode cX15_init 13 = .ok (.putfield 12, 3) := dk_181 0 12 (dk_at dksX15_init_0 13 rfl rfl)
theorem dX15_init_16 : decode cX15_init 16 = .ok (.aload_n 0, 1) := dk_42 (dk_at dksX15_init_0 16 rfl rfl)
theorem dX15_init_17 : decode cX15_init 17 = .ok (.new 7, 3) := dk_187 0 7 (dk_at dksX15_init_0 17 rfl rfl)
theorem dX15_init_20 : decode cX15_init 20 = .ok (.dup, 1) := dk_89 (dk_at dksX15_init_0 20 rfl rfl)
theorem dX15_init_21 : decode cX15_init 21 = .ok (.iconst 1, 1) := dk_4 (dk_at dksX15_init_0 21 rfl rfl)
theorem dX15_init_22 : decode cX15_init 22 = .ok (.invokespecial 9, 3) := dk_183 0 9 (dk_at dksX15_init_1 0 rfl rfl)
theorem dX15_init_25 : decode cX15_init 25 = .ok (.putfield 18, 3) := dk_181 0 18 (dk_at dksX15_init_1 3 rfl rfl)
theorem dX15_init_28 : decode cX15_init 28 = .ok (.aload_n 0, 1) := dk_42 (dk_at dksX15_init_1 6 rfl rfl)
theorem dX15_init_29 : decode cX15_init 29 = .ok (.bipush 43, 2) := dk_16 43 (dk_at dksX15_init_1 7 rfl rfl)
theorem dX15_init_31 : decode cX15_init 31 = .ok (.aload_n 1, 1) := dk_43 (dk_at dksX15_init_1 9 rfl rfl)
theorem dX15_init_32 : decode cX15_init 32 = .ok (.invokevirtual 21, 3) := dk_182 0 21 (dk_at dksX15_init_1 10 rfl rfl)
theorem dX15_init_35 : decode cX15_init 35 = .ok (.return_, 1) := dk_177 (dk_at dksX15_init_1 13 rfl rfl)
abbrev cX15_add : ByteArray := prog_9_method_2_code
def yX15_add : MethodName := ⟨RX15, "add", "(ILLotBeliefs$Term;)V"⟩
def dkwX15_add_0 : List UInt8 := [42, 180, 0, 18, 27, 184, 0, 25, 182, 0, 31, 87, 42, 180, 0, 12, 44, 182, 0, 31, 87, 177]
abbrev dktX15_add_0 : List UInt8 := dkwX15_add_0 ++ []
theorem dksX15_add_0 : cX15_add.data.toList.drop 0 = dktX15_add_0 := by decide +kernel
theorem dX15_add_0 : decode cX15_add 0 = .ok (.aload_n 0, 1) := dk_42 (dk_at dksX15_add_0 0 rfl rfl)
theorem dX15_add_1 : decode cX15_add 1 = .ok (.getfield 18, 3) := dk_180 0 18 (dk_at dksX15_add_0 1 rfl rfl)
theorem dX15_add_4 : decode cX15_add 4 = .ok (.iload_n 1, 1) := dk_27 (dk_at dksX15_add_0 4 rfl rfl)
theorem dX15_add_5 : decode cX15_add 5 = .ok (.invokestatic 25, 3) := dk_184 0 25 (dk_at dksX15_add_0 5 rfl rfl)
theorem dX15_add_8 : decode cX15_add 8 = .ok (.invokevirtual 31, 3) := dk_182 0 31 (dk_at dksX15_add_0 8 rfl rfl)
theorem dX15_add_11 : decode cX15_add 11 = .ok (.pop, 1) := dk_87 (dk_at dksX15_add_0 11 rfl rfl)
theorem dX15_add_12 : decode cX15_add 12 = .ok (.aload_n 0, 1) := dk_42 (dk_at dksX15_add_0 12 rfl rfl)
theorem dX15_add_13 : decode cX15_add 13 = .ok (.getfield 12, 3) := dk_180 0 12 (dk_at dksX15_add_0 13 rfl rfl)
theorem dX15_add_16 : decode cX15_add 16 = .ok (.aload_n 2, 1) := dk_44 (dk_at dksX15_add_0 16 rfl rfl)
theorem dX15_add_17 : decode cX15_add 17 = .ok (.invokevirtual 31, 3) := dk_182 0 31 (dk_at dksX15_add_0 17 rfl rfl)
theorem dX15_add_20 : decode cX15_add 20 = .ok (.pop, 1) := dk_87 (dk_at dksX15_add_0 20 rfl rfl)
theorem dX15_add_21 : decode cX15_add 21 = .ok (.return_, 1) := dk_177 (dk_at dksX15_add_0 21 rfl rfl)
theorem q160 : (Jvm.Cond.initialized "LotBeliefs$Row") ∈ lw_all := lw_g (lw_at lw_m1 36 rfl) rfl
theorem q893 : (Jvm.Cond.selects "LotBeliefs$Row" ({ cls := "LotBeliefs$Term", name := "of", desc := "([I)I" } : Jvm.MethodName) ({ cls := "LotBeliefs$Row", name := "of", desc := "([I)I" } : Jvm.MethodName)) ∈ lw_all := lw_g (lw_at lw_m4 49 rfl) rfl
theorem q894 : (Jvm.Cond.instanceMethod ({ cls := "LotBeliefs$Row", name := "of", desc := "([I)I" } : Jvm.MethodName)) ∈ lw_all := lw_g (lw_at lw_m4 50 rfl) rfl
theorem q895 : (Jvm.Cond.code ({ cls := "LotBeliefs$Row", name := "of", desc := "([I)I" } : Jvm.MethodName) prog_9_method_3_code (5 : Nat) (Option.some Jvm.ClassFile.FieldType.int)) ∈ lw_all := lw_g (lw_at lw_m4 51 rfl) rfl
theorem q896 : (Jvm.Cond.methodLink "LotBeliefs$Row" (34 : Nat) ({ cls := "java/util/ArrayList", name := "get", desc := "(I)Ljava/lang/Object;" } : Jvm.MethodName)) ∈ lw_all := lw_g (lw_at lw_m4 52 rfl) rfl
theorem q897 : (Jvm.Cond.classLink "LotBeliefs$Row" (2 : Nat) "LotBeliefs$Term") ∈ lw_all := lw_g (lw_at lw_m4 53 rfl) rfl
theorem q898 : (Jvm.Cond.methodLink "LotBeliefs$Row" (38 : Nat) ({ cls := "LotBeliefs$Term", name := "of", desc := "([I)I" } : Jvm.MethodName)) ∈ lw_all := lw_g (lw_at lw_m4 54 rfl) rfl
theorem q899 : (Jvm.Cond.methodLink "LotBeliefs$Row" (42 : Nat) ({ cls := "java/util/ArrayList", name := "size", desc := "()I" } : Jvm.MethodName)) ∈ lw_all := lw_g (lw_at lw_m4 55 rfl) rfl
theorem q900 : (Jvm.Cond.classLink "LotBeliefs$Row" (26 : Nat) "java/lang/Integer") ∈ lw_all := lw_g (lw_at lw_m4 56 rfl) rfl
theorem q901 : (Jvm.Cond.methodLink "LotBeliefs$Row" (46 : Nat) ({ cls := "java/lang/Integer", name := "intValue", desc := "()I" } : Jvm.MethodName)) ∈ lw_all := lw_g (lw_at lw_m4 57 rfl) rfl
theorem q1292 : (Jvm.Cond.selects "LotBeliefs$Row" ({ cls := "java/lang/Object", name := "getClass", desc := "()Ljava/lang/Class;" } : Jvm.MethodName) ({ cls := "java/lang/Object", name := "getClass", desc := "()Ljava/lang/Class;" } : Jvm.MethodName)) ∈ lw_all := lw_g (lw_at lw_m5 208 rfl) rfl
theorem q1444 : (Jvm.Cond.instantiable "LotBeliefs$Row" (2 : Nat)) ∈ lw_all := lw_g (lw_at lw_m6 120 rfl) rfl
theorem q1496 : (Jvm.Cond.instanceMethod ({ cls := "LotBeliefs$Row", name := "<init>", desc := "(LLotBeliefs$Term;)V" } : Jvm.MethodName)) ∈ lw_all := lw_g (lw_at lw_m6 172 rfl) rfl
theorem q1497 : (Jvm.Cond.code ({ cls := "LotBeliefs$Row", name := "<init>", desc := "(LLotBeliefs$Term;)V" } : Jvm.MethodName) prog_9_method_1_code (2 : Nat) (Option.none : Option Jvm.ClassFile.FieldType)) ∈ lw_all := lw_g (lw_at lw_m6 173 rfl) rfl
theorem q1498 : (Jvm.Cond.methodLinkNest "LotBeliefs$Row" (1 : Nat) ({ cls := "LotBeliefs$Term", name := "<init>", desc := "()V" } : Jvm.MethodName) "LotBeliefs") ∈ lw_tbl := lw_at lw_m6 174 rfl
theorem q1499 : (Jvm.Cond.classLink "LotBeliefs$Row" (7 : Nat) "java/util/ArrayList") ∈ lw_all := lw_g (lw_at lw_m6 175 rfl) rfl
theorem q1500 : (Jvm.Cond.methodLink "LotBeliefs$Row" (9 : Nat) ({ cls := "java/util/ArrayList", name := "<init>", desc := "(I)V" } : Jvm.MethodName)) ∈ lw_all := lw_g (lw_at lw_m6 176 rfl) rfl
theorem q1501 : (Jvm.Cond.methodLink "LotBeliefs$Row" (21 : Nat) ({ cls := "LotBeliefs$Row", name := "add", desc := "(ILLotBeliefs$Term;)V" } : Jvm.MethodName)) ∈ lw_all := lw_g (lw_at lw_m6 177 rfl) rfl
theorem q1502 : (Jvm.Cond.instanceMethod ({ cls := "LotBeliefs$Row", name := "add", desc := "(ILLotBeliefs$Term;)V" } : Jvm.MethodName)) ∈ lw_all := lw_g (lw_at lw_m6 178 rfl) rfl
theorem q1503 : (Jvm.Cond.selects "LotBeliefs$Row" ({ cls := "LotBeliefs$Row", name := "add", desc := "(ILLotBeliefs$Term;)V" } : Jvm.MethodName) ({ cls := "LotBeliefs$Row", name := "add", desc := "(ILLotBeliefs$Term;)V" } : Jvm.MethodName)) ∈ lw_all := lw_g (lw_at lw_m6 179 rfl) rfl
theorem q1504 : (Jvm.Cond.code ({ cls := "LotBeliefs$Row", name := "add", desc := "(ILLotBeliefs$Term;)V" } : Jvm.MethodName) prog_9_method_2_code (3 : Nat) (Option.none : Option Jvm.ClassFile.FieldType)) ∈ lw_all := lw_g (lw_at lw_m6 180 rfl) rfl
theorem q1505 : (Jvm.Cond.methodLink "LotBeliefs$Row" (25 : Nat) ({ cls := "java/lang/Integer", name := "valueOf", desc := "(I)Ljava/lang/Integer;" } : Jvm.MethodName)) ∈ lw_all := lw_g (lw_at lw_m6 181 rfl) rfl
theorem q1525 : (Jvm.Cond.methodLink "LotBeliefs$Row" (31 : Nat) ({ cls := "java/util/ArrayList", name := "add", desc := "(Ljava/lang/Object;)Z" } : Jvm.MethodName)) ∈ lw_all := lw_g (lw_at lw_m6 201 rfl) rfl
theorem q1526 : (Jvm.Cond.fieldLink "LotBeliefs$Row" (12 : Nat) "LotBeliefs$Row" "terms" "Ljava/util/ArrayList;") ∈ lw_all := lw_g (lw_at lw_m6 202 rfl) rfl
theorem q1527 : (Jvm.Cond.fieldLink "LotBeliefs$Row" (18 : Nat) "LotBeliefs$Row" "signs" "Ljava/util/ArrayList;") ∈ lw_all := lw_g (lw_at lw_m6 203 rfl) rfl
theorem q1528 : (Jvm.Cond.laysFinal "LotBeliefs$Row" "LotBeliefs$Row" "terms" "Ljava/util/ArrayList;") ∈ lw_all := lw_g (lw_at lw_m6 204 rfl) rfl
theorem q1529 : (Jvm.Cond.soleField "LotBeliefs$Row" "terms") ∈ lw_all := lw_g (lw_at lw_m6 205 rfl) rfl
theorem q1530 : (Jvm.Cond.laysFinal "LotBeliefs$Row" "LotBeliefs$Row" "signs" "Ljava/util/ArrayList;") ∈ lw_all := lw_g (lw_at lw_m6 206 rfl) rfl
theorem q1531 : (Jvm.Cond.soleField "LotBeliefs$Row" "signs") ∈ lw_all := lw_g (lw_at lw_m6 207 rfl) rfl
theorem q1532 : (Jvm.Cond.superclass "LotBeliefs$Row" "LotBeliefs$Term") ∈ lw_all := lw_g (lw_at lw_m6 208 rfl) rfl
theorem q2707 : (Jvm.Cond.castable "LotBeliefs$Row" "LotBeliefs$Term") ∈ lw_tbl := lw_at lw_m11 183 rfl
theorem q2725 : (Jvm.Cond.castable "LotBeliefs$Row" "java/lang/Object") ∈ lw_tbl := lw_at lw_m11 201 rfl

abbrev cX16_of : ByteArray := prog_7_method_2_code
def yX16_of : MethodName := ⟨RX16, "of", "([I)I"⟩
theorem dX16_of_0 : decode cX16_of 0 = .ok (.aload_n 0, 1) := by decide +kernel
theorem dX16_of_1 : decode cX16_of 1 = .ok (.getfield 7, 3) := by decide +kernel
theorem dX16_of_4 : decode cX16_of 4 = .ok (.ireturn, 1) := by decide +kernel
abbrev cX16_init : ByteArray := prog_7_method_1_code
def yX16_init : MethodName := ⟨RX16, "<init>", "(I)V"⟩
def dkwX16_init_0 : List UInt8 := [42, 183, 0, 1, 42, 27, 181, 0, 7, 177]
abbrev dktX16_init_0 : List UInt8 := dkwX16_init_0 ++ []
theorem dksX16_init_0 : cX16_init.data.toList.drop 0 = dktX16_init_0 := by decide +kernel
theorem dX16_init_0 : decode cX16_init 0 = .ok (.aload_n 0, 1) := dk_42 (dk_at dksX16_init_0 0 rfl rfl)
theorem dX16_init_1 : decode cX16_init 1 = .ok (.invokespecial 1, 3) := dk_183 0 1 (dk_at dksX16_init_0 1 rfl rfl)
theorem dX16_init_4 : decode cX16_init 4 = .ok (.aload_n 0, 1) := dk_42 (dk_at dksX16_init_0 4 rfl rfl)
theorem dX16_init_5 : decode cX16_init 5 = .ok (.iload_n 1, 1) := dk_27 (dk_at dksX16_init_0 5 rfl rfl)
theorem dX16_init_6 : decode cX16_init 6 = .ok (.putfield 7, 3) := dk_181 0 7 (dk_at dksX16_init_0 6 rfl rfl)
theorem dX16_init_9 : decode cX16_init 9 = .ok (.return_, 1) := dk_177 (dk_at dksX16_init_0 9 rfl rfl)
theorem q161 : (Jvm.Cond.initialized "LotBeliefs$Plain") ∈ lw_all := lw_g (lw_at lw_m1 37 rfl) rfl
theorem q890 : (Jvm.Cond.selects "LotBeliefs$Plain" ({ cls := "LotBeliefs$Term", name := "of", desc := "([I)I" } : Jvm.MethodName) ({ cls := "LotBeliefs$Plain", name := "of", desc := "([I)I" } : Jvm.MethodName)) ∈ lw_all := lw_g (lw_at lw_m4 46 rfl) rfl
theorem q891 : (Jvm.Cond.instanceMethod ({ cls := "LotBeliefs$Plain", name := "of", desc := "([I)I" } : Jvm.MethodName)) ∈ lw_all := lw_g (lw_at lw_m4 47 rfl) rfl
theorem q892 : (Jvm.Cond.code ({ cls := "LotBeliefs$Plain", name := "of", desc := "([I)I" } : Jvm.MethodName) prog_7_method_2_code (2 : Nat) (Option.some Jvm.ClassFile.FieldType.int)) ∈ lw_all := lw_g (lw_at lw_m4 48 rfl) rfl
theorem q1290 : (Jvm.Cond.selects "LotBeliefs$Plain" ({ cls := "java/lang/Object", name := "getClass", desc := "()Ljava/lang/Class;" } : Jvm.MethodName) ({ cls := "java/lang/Object", name := "getClass", desc := "()Ljava/lang/Class;" } : Jvm.MethodName)) ∈ lw_all := lw_g (lw_at lw_m5 206 rfl) rfl
theorem q1454 : (Jvm.Cond.instantiable "LotBeliefs$Plain" (1 : Nat)) ∈ lw_all := lw_g (lw_at lw_m6 130 rfl) rfl
theorem q1461 : (Jvm.Cond.instanceMethod ({ cls := "LotBeliefs$Plain", name := "<init>", desc := "(I)V" } : Jvm.MethodName)) ∈ lw_all := lw_g (lw_at lw_m6 137 rfl) rfl
theorem q1462 : (Jvm.Cond.code ({ cls := "LotBeliefs$Plain", name := "<init>", desc := "(I)V" } : Jvm.MethodName) prog_7_method_1_code (2 : Nat) (Option.none : Option Jvm.ClassFile.FieldType)) ∈ lw_all := lw_g (lw_at lw_m6 138 rfl) rfl
theorem q1463 : (Jvm.Cond.methodLinkNest "LotBeliefs$Plain" (1 : Nat) ({ cls := "LotBeliefs$Term", name := "<init>", desc := "()V" } : Jvm.MethodName) "LotBeliefs") ∈ lw_tbl := lw_at lw_m6 139 rfl
theorem q1467 : (Jvm.Cond.fieldLink "LotBeliefs$Plain" (7 : Nat) "LotBeliefs$Plain" "n" "I") ∈ lw_all := lw_g (lw_at lw_m6 143 rfl) rfl
theorem q1468 : (Jvm.Cond.laysFinal "LotBeliefs$Plain" "LotBeliefs$Plain" "n" "I") ∈ lw_all := lw_g (lw_at lw_m6 144 rfl) rfl
theorem q1469 : (Jvm.Cond.soleField "LotBeliefs$Plain" "n") ∈ lw_all := lw_g (lw_at lw_m6 145 rfl) rfl
theorem q1470 : (Jvm.Cond.superclass "LotBeliefs$Plain" "LotBeliefs$Term") ∈ lw_all := lw_g (lw_at lw_m6 146 rfl) rfl
theorem q2706 : (Jvm.Cond.castable "LotBeliefs$Plain" "LotBeliefs$Term") ∈ lw_tbl := lw_at lw_m11 182 rfl
theorem q2726 : (Jvm.Cond.castable "LotBeliefs$Plain" "java/lang/Object") ∈ lw_tbl := lw_at lw_m11 202 rfl

abbrev cX17_of : ByteArray := prog_2_method_2_code
def yX17_of : MethodName := ⟨RX17, "of", "([I)I"⟩
def dkwX17_of_0 : List UInt8 := [43, 42, 180, 0, 7, 46, 172]
abbrev dktX17_of_0 : List UInt8 := dkwX17_of_0 ++ []
theorem dksX17_of_0 : cX17_of.data.toList.drop 0 = dktX17_of_0 := by decide +kernel
theorem dX17_of_0 : decode cX17_of 0 = .ok (.aload_n 1, 1) := dk_43 (dk_at dksX17_of_0 0 rfl rfl)
theorem dX17_of_1 : decode cX17_of 1 = .ok (.aload_n 0, 1) := dk_42 (dk_at dksX17_of_0 1 rfl rfl)
theorem dX17_of_2 : decode cX17_of 2 = .ok (.getfield 7, 3) := dk_180 0 7 (dk_at dksX17_of_0 2 rfl rfl)
theorem dX17_of_5 : decode cX17_of 5 = .ok (.iaload, 1) := dk_46 (dk_at dksX17_of_0 5 rfl rfl)
theorem dX17_of_6 : decode cX17_of 6 = .ok (.ireturn, 1) := dk_172 (dk_at dksX17_of_0 6 rfl rfl)
abbrev cX17_init : ByteArray := prog_2_method_1_code
def yX17_init : MethodName := ⟨RX17, "<init>", "(I)V"⟩
def dkwX17_init_0 : List UInt8 := [42, 183, 0, 1, 42, 27, 181, 0, 7, 177]
abbrev dktX17_init_0 : List UInt8 := dkwX17_init_0 ++ []
theorem dksX17_init_0 : cX17_init.data.toList.drop 0 = dktX17_init_0 := by decide +kernel
theorem dX17_init_0 : decode cX17_init 0 = .ok (.aload_n 0, 1) := dk_42 (dk_at dksX17_init_0 0 rfl rfl)
theorem dX17_init_1 : decode cX17_init 1 = .ok (.invokespecial 1, 3) := dk_183 0 1 (dk_at dksX17_init_0 1 rfl rfl)
theorem dX17_init_4 : decode cX17_init 4 = .ok (.aload_n 0, 1) := dk_42 (dk_at dksX17_init_0 4 rfl rfl)
theorem dX17_init_5 : decode cX17_init 5 = .ok (.iload_n 1, 1) := dk_27 (dk_at dksX17_init_0 5 rfl rfl)
theorem dX17_init_6 : decode cX17_init 6 = .ok (.putfield 7, 3) := dk_181 0 7 (dk_at dksX17_init_0 6 rfl rfl)
theorem dX17_init_9 : decode cX17_init 9 = .ok (.return_, 1) := dk_177 (dk_at dksX17_init_0 9 rfl rfl)
theorem q162 : (Jvm.Cond.initialized "LotBeliefs$Fact") ∈ lw_all := lw_g (lw_at lw_m1 38 rfl) rfl
theorem q887 : (Jvm.Cond.selects "LotBeliefs$Fact" ({ cls := "LotBeliefs$Term", name := "of", desc := "([I)I" } : Jvm.MethodName) ({ cls := "LotBeliefs$Fact", name := "of", desc := "([I)I" } : Jvm.MethodName)) ∈ lw_all := lw_g (lw_at lw_m4 43 rfl) rfl
theorem q888 : (Jvm.Cond.instanceMethod ({ cls := "LotBeliefs$Fact", name := "of", desc := "([I)I" } : Jvm.MethodName)) ∈ lw_all := lw_g (lw_at lw_m4 44 rfl) rfl
theorem q889 : (Jvm.Cond.code ({ cls := "LotBeliefs$Fact", name := "of", desc := "([I)I" } : Jvm.MethodName) prog_2_method_2_code (2 : Nat) (Option.some Jvm.ClassFile.FieldType.int)) ∈ lw_all := lw_g (lw_at lw_m4 45 rfl) rfl
theorem q1286 : (Jvm.Cond.selects "LotBeliefs$Fact" ({ cls := "java/lang/Object", name := "getClass", desc := "()Ljava/lang/Class;" } : Jvm.MethodName) ({ cls := "java/lang/Object", name := "getClass", desc := "()Ljava/lang/Class;" } : Jvm.MethodName)) ∈ lw_all := lw_g (lw_at lw_m5 202 rfl) rfl
theorem q1486 : (Jvm.Cond.instantiable "LotBeliefs$Fact" (1 : Nat)) ∈ lw_all := lw_g (lw_at lw_m6 162 rfl) rfl
theorem q1488 : (Jvm.Cond.instanceMethod ({ cls := "LotBeliefs$Fact", name := "<init>", desc := "(I)V" } : Jvm.MethodName)) ∈ lw_all := lw_g (lw_at lw_m6 164 rfl) rfl
theorem q1489 : (Jvm.Cond.code ({ cls := "LotBeliefs$Fact", name := "<init>", desc := "(I)V" } : Jvm.MethodName) prog_2_method_1_code (2 : Nat) (Option.none : Option Jvm.ClassFile.FieldType)) ∈ lw_all := lw_g (lw_at lw_m6 165 rfl) rfl
theorem q1490 : (Jvm.Cond.methodLinkNest "LotBeliefs$Fact" (1 : Nat) ({ cls := "LotBeliefs$Term", name := "<init>", desc := "()V" } : Jvm.MethodName) "LotBeliefs") ∈ lw_tbl := lw_at lw_m6 166 rfl
theorem q1491 : (Jvm.Cond.fieldLink "LotBeliefs$Fact" (7 : Nat) "LotBeliefs$Fact" "which" "I") ∈ lw_all := lw_g (lw_at lw_m6 167 rfl) rfl
theorem q1492 : (Jvm.Cond.laysFinal "LotBeliefs$Fact" "LotBeliefs$Fact" "which" "I") ∈ lw_all := lw_g (lw_at lw_m6 168 rfl) rfl
theorem q1493 : (Jvm.Cond.soleField "LotBeliefs$Fact" "which") ∈ lw_all := lw_g (lw_at lw_m6 169 rfl) rfl
theorem q1494 : (Jvm.Cond.superclass "LotBeliefs$Fact" "LotBeliefs$Term") ∈ lw_all := lw_g (lw_at lw_m6 170 rfl) rfl
theorem q2705 : (Jvm.Cond.castable "LotBeliefs$Fact" "LotBeliefs$Term") ∈ lw_tbl := lw_at lw_m11 181 rfl
theorem q2727 : (Jvm.Cond.castable "LotBeliefs$Fact" "java/lang/Object") ∈ lw_tbl := lw_at lw_m11 203 rfl

abbrev cX18_isSo : ByteArray := prog_4_method_2_code
def yX18_isSo : MethodName := ⟨RX18, "isSo", "([I)Z"⟩
def dkwX18_isSo_3 : List UInt8 := [167, 0, 4, 3, 172]
abbrev dktX18_isSo_3 : List UInt8 := dkwX18_isSo_3 ++ []
def dkwX18_isSo_2 : List UInt8 := [160, 0, 16, 28, 29, 164, 0, 7, 4, 167, 0, 17, 3, 167, 0, 13, 28, 29, 160, 0, 7, 4]
abbrev dktX18_isSo_2 : List UInt8 := dkwX18_isSo_2 ++ dktX18_isSo_3
def dkwX18_isSo_1 : List UInt8 := [160, 0, 16, 28, 29, 162, 0, 7, 4, 167, 0, 39, 3, 167, 0, 35, 42, 180, 0, 13, 16, 62]
abbrev dktX18_isSo_1 : List UInt8 := dkwX18_isSo_1 ++ dktX18_isSo_2
def dkwX18_isSo_0 : List UInt8 := [42, 180, 0, 7, 43, 182, 0, 20, 61, 42, 180, 0, 17, 43, 182, 0, 20, 62, 42, 180, 0, 13, 16, 60]
abbrev dktX18_isSo_0 : List UInt8 := dkwX18_isSo_0 ++ dktX18_isSo_1
theorem dksX18_isSo_0 : cX18_isSo.data.toList.drop 0 = dktX18_isSo_0 := by decide +kernel
theorem dksX18_isSo_1 : cX18_isSo.data.toList.drop 24 = dktX18_isSo_1 := dk_seg dksX18_isSo_0 24 rfl rfl
theorem dksX18_isSo_2 : cX18_isSo.data.toList.drop 46 = dktX18_isSo_2 := dk_seg dksX18_isSo_1 22 rfl rfl
theorem dksX18_isSo_3 : cX18_isSo.data.toList.drop 68 = dktX18_isSo_3 := dk_seg dksX18_isSo_2 22 rfl rfl
theorem dX18_isSo_0 : decode cX18_isSo 0 = .ok (.aload_n 0, 1) := dk_42 (dk_at dksX18_isSo_0 0 rfl rfl)
theorem dX18_isSo_1 : decode cX18_isSo 1 = .ok (.getfield 7, 3) := dk_180 0 7 (dk_at dksX18_isSo_0 1 rfl rfl)
theorem dX18_isSo_4 : decode cX18_isSo 4 = .ok (.aload_n 1, 1) := dk_43 (dk_at dksX18_isSo_0 4 rfl rfl)
theorem dX18_isSo_5 : decode cX18_isSo 5 = .ok (.invokevirtual 20, 3) := dk_182 0 20 (dk_at dksX18_isSo_0 5 rfl rfl)
theorem dX18_isSo_8 : decode cX18_isSo 8 = .ok (.istore_n 2, 1) := dk_61 (dk_at dksX18_isSo_0 8 rfl rfl)
theorem dX18_isSo_9 : decode cX18_isSo 9 = .ok (.aload_n 0, 1) := dk_42 (dk_at dksX18_isSo_0 9 rfl rfl)
theorem dX18_isSo_10 : decode cX18_isSo 10 = .ok (.getfield 17, 3) := dk_180 0 17 (dk_at dksX18_isSo_0 10 rfl rfl)
theorem dX18_isSo_13 : decode cX18_isSo 13 = .ok (.aload_n 1, 1) := dk_43 (dk_at dksX18_isSo_0 13 rfl rfl)
theorem dX18_isSo_14 : decode cX18_isSo 14 = .ok (.invokevirtual 20, 3) := dk_182 0 20 (dk_at dksX18_isSo_0 14 rfl rfl)
theorem dX18_isSo_17 : decode cX18_isSo 17 = .ok (.istore_n 3, 1) := dk_62 (dk_at dksX18_isSo_0 17 rfl rfl)
theorem dX18_isSo_18 : decode cX18_isSo 18 = .ok (.aload_n 0, 1) := dk_42 (dk_at dksX18_isSo_0 18 rfl rfl)
theorem dX18_isSo_19 : decode cX18_isSo 19 = .ok (.getfield 13, 3) := dk_180 0 13 (dk_at dksX18_isSo_0 19 rfl rfl)
theorem dX18_isSo_22 : decode cX18_isSo 22 = .ok (.bipush 60, 2) := dk_16 60 (dk_at dksX18_isSo_0 22 rfl rfl)
theorem dX18_isSo_24 : decode cX18_isSo 24 = .ok (.if_icmp .ne 16, 3) := dk_160 0 16 (dk_at dksX18_isSo_1 0 rfl rfl)
theorem dX18_isSo_27 : decode cX18_isSo 27 = .ok (.iload_n 2, 1) := dk_28 (dk_at dksX18_isSo_1 3 rfl rfl)
theorem dX18_isSo_28 : decode cX18_isSo 28 = .ok (.iload_n 3, 1) := dk_29 (dk_at dksX18_isSo_1 4 rfl rfl)
theorem dX18_isSo_29 : decode cX18_isSo 29 = .ok (.if_icmp .ge 7, 3) := dk_162 0 7 (dk_at dksX18_isSo_1 5 rfl rfl)
theorem dX18_isSo_32 : decode cX18_isSo 32 = .ok (.iconst 1, 1) := dk_4 (dk_at dksX18_isSo_1 8 rfl rfl)
theorem dX18_isSo_33 : decode cX18_isSo 33 = .ok (.goto 39, 3) := dk_167 0 39 (dk_at dksX18_isSo_1 9 rfl rfl)
theorem dX18_isSo_36 : decode cX18_isSo 36 = .ok (.iconst 0, 1) := dk_3 (dk_at dksX18_isSo_1 12 rfl rfl)
theorem dX18_isSo_37 : decode cX18_isSo 37 = .ok (.goto 35, 3) := dk_167 0 35 (dk_at dksX18_isSo_1 13 rfl rfl)
theorem dX18_isSo_40 : decode cX18_isSo 40 = .ok (.aload_n 0, 1) := dk_42 (dk_at dksX18_isSo_1 16 rfl rfl)
theorem dX18_isSo_41 : decode cX18_isSo 41 = .ok (.getfield 13, 3) := dk_180 0 13 (dk_at dksX18_isSo_1 17 rfl rfl)
theorem dX18_isSo_44 : decode cX18_isSo 44 = .ok (.bipush 62, 2) := dk_16 62 (dk_at dksX18_isSo_1 20 rfl rfl)
theorem dX18_isSo_46 : decode cX18_isSo 46 = .ok (.if_icmp .ne 16, 3) := dk_160 0 16 (dk_at dksX18_isSo_2 0 rfl rfl)
theorem dX18_isSo_49 : decode cX18_isSo 49 = .ok (.iload_n 2, 1) := dk_28 (dk_at dksX18_isSo_2 3 rfl rfl)
theorem dX18_isSo_50 : decode cX18_isSo 50 = .ok (.iload_n 3, 1) := dk_29 (dk_at dksX18_isSo_2 4 rfl rfl)
theorem dX18_isSo_51 : decode cX18_isSo 51 = .ok (.if_icmp .le 7, 3) := dk_164 0 7 (dk_at dksX18_isSo_2 5 rfl rfl)
theorem dX18_isSo_54 : decode cX18_isSo 54 = .ok (.iconst 1, 1) := dk_4 (dk_at dksX18_isSo_2 8 rfl rfl)
theorem dX18_isSo_55 : decode cX18_isSo 55 = .ok (.goto 17, 3) := dk_167 0 17 (dk_at dksX18_isSo_2 9 rfl rfl)
theorem dX18_isSo_58 : decode cX18_isSo 58 = .ok (.iconst 0, 1) := dk_3 (dk_at dksX18_isSo_2 12 rfl rfl)
theorem dX18_isSo_59 : decode cX18_isSo 59 = .ok (.goto 13, 3) := dk_167 0 13 (dk_at dksX18_isSo_2 13 rfl rfl)
theorem dX18_isSo_62 : decode cX18_isSo 62 = .ok (.iload_n 2, 1) := dk_28 (dk_at dksX18_isSo_2 16 rfl rfl)
theorem dX18_isSo_63 : decode cX18_isSo 63 = .ok (.iload_n 3, 1) := dk_29 (dk_at dksX18_isSo_2 17 rfl rfl)
theorem dX18_isSo_64 : decode cX18_isSo 64 = .ok (.if_icmp .ne 7, 3) := dk_160 0 7 (dk_at dksX18_isSo_2 18 rfl rfl)
theorem dX18_isSo_67 : decode cX18_isSo 67 = .ok (.iconst 1, 1) := dk_4 (dk_at dksX18_isSo_2 21 rfl rfl)
theorem dX18_isSo_68 : decode cX18_isSo 68 = .ok (.goto 4, 3) := dk_167 0 4 (dk_at dksX18_isSo_3 0 rfl rfl)
theorem dX18_isSo_71 : decode cX18_isSo 71 = .ok (.iconst 0, 1) := dk_3 (dk_at dksX18_isSo_3 3 rfl rfl)
theorem dX18_isSo_72 : decode cX18_isSo 72 = .ok (.ireturn, 1) := dk_172 (dk_at dksX18_isSo_3 4 rfl rfl)
abbrev cX18_init : ByteArray := prog_4_method_1_code
def yX18_init : MethodName := ⟨RX18, "<init>", "(LLotBeliefs$Term;ILLotBeliefs$Term;)V"⟩
def dkwX18_init_0 : List UInt8 := [42, 183, 0, 1, 42, 43, 181, 0, 7, 42, 28, 181, 0, 13, 42, 45, 181, 0, 17, 177]
abbrev dktX18_init_0 : List UInt8 := dkwX18_init_0 ++ []
theorem dksX18_init_0 : cX18_init.data.toList.drop 0 = dktX18_init_0 := by decide +kernel
theorem dX18_init_0 : decode cX18_init 0 = .ok (.aload_n 0, 1) := dk_42 (dk_at dksX18_init_0 0 rfl rfl)
theorem dX18_init_1 : decode cX18_init 1 = .ok (.invokespecial 1, 3) := dk_183 0 1 (dk_at dksX18_init_0 1 rfl rfl)
theorem dX18_init_4 : decode cX18_init 4 = .ok (.aload_n 0, 1) := dk_42 (dk_at dksX18_init_0 4 rfl rfl)
theorem dX18_init_5 : decode cX18_init 5 = .ok (.aload_n 1, 1) := dk_43 (dk_at dksX18_init_0 5 rfl rfl)
theorem dX18_init_6 : decode cX18_init 6 = .ok (.putfield 7, 3) := dk_181 0 7 (dk_at dksX18_init_0 6 rfl rfl)
theorem dX18_init_9 : decode cX18_init 9 = .ok (.aload_n 0, 1) := dk_42 (dk_at dksX18_init_0 9 rfl rfl)
theorem dX18_init_10 : decode cX18_init 10 = .ok (.iload_n 2, 1) := dk_28 (dk_at dksX18_init_0 10 rfl rfl)
theorem dX18_init_11 : decode cX18_init 11 = .ok (.putfield 13, 3) := dk_181 0 13 (dk_at dksX18_init_0 11 rfl rfl)
theorem dX18_init_14 : decode cX18_init 14 = .ok (.aload_n 0, 1) := dk_42 (dk_at dksX18_init_0 14 rfl rfl)
theorem dX18_init_15 : decode cX18_init 15 = .ok (.aload_n 3, 1) := dk_45 (dk_at dksX18_init_0 15 rfl rfl)
theorem dX18_init_16 : decode cX18_init 16 = .ok (.putfield 17, 3) := dk_181 0 17 (dk_at dksX18_init_0 16 rfl rfl)
theorem dX18_init_19 : decode cX18_init 19 = .ok (.return_, 1) := dk_177 (dk_at dksX18_init_0 19 rfl rfl)
theorem q164 : (Jvm.Cond.initialized "LotBeliefs$Holds") ∈ lw_all := lw_g (lw_at lw_m1 40 rfl) rfl
theorem q881 : (Jvm.Cond.selects "LotBeliefs$Holds" ({ cls := "LotBeliefs$Ground", name := "isSo", desc := "([I)Z" } : Jvm.MethodName) ({ cls := "LotBeliefs$Holds", name := "isSo", desc := "([I)Z" } : Jvm.MethodName)) ∈ lw_all := lw_g (lw_at lw_m4 37 rfl) rfl
theorem q882 : (Jvm.Cond.instanceMethod ({ cls := "LotBeliefs$Holds", name := "isSo", desc := "([I)Z" } : Jvm.MethodName)) ∈ lw_all := lw_g (lw_at lw_m4 38 rfl) rfl
theorem q883 : (Jvm.Cond.code ({ cls := "LotBeliefs$Holds", name := "isSo", desc := "([I)Z" } : Jvm.MethodName) prog_4_method_2_code (4 : Nat) (Option.some Jvm.ClassFile.FieldType.boolean)) ∈ lw_all := lw_g (lw_at lw_m4 39 rfl) rfl
theorem q884 : (Jvm.Cond.methodLink "LotBeliefs$Holds" (20 : Nat) ({ cls := "LotBeliefs$Term", name := "of", desc := "([I)I" } : Jvm.MethodName)) ∈ lw_all := lw_g (lw_at lw_m4 40 rfl) rfl
theorem q1287 : (Jvm.Cond.selects "LotBeliefs$Holds" ({ cls := "java/lang/Object", name := "getClass", desc := "()Ljava/lang/Class;" } : Jvm.MethodName) ({ cls := "java/lang/Object", name := "getClass", desc := "()Ljava/lang/Class;" } : Jvm.MethodName)) ∈ lw_all := lw_g (lw_at lw_m5 203 rfl) rfl
theorem q1535 : (Jvm.Cond.instantiable "LotBeliefs$Holds" (3 : Nat)) ∈ lw_all := lw_g (lw_at lw_m6 211 rfl) rfl
theorem q1537 : (Jvm.Cond.instanceMethod ({ cls := "LotBeliefs$Holds", name := "<init>", desc := "(LLotBeliefs$Term;ILLotBeliefs$Term;)V" } : Jvm.MethodName)) ∈ lw_all := lw_g (lw_at lw_m6 213 rfl) rfl
theorem q1538 : (Jvm.Cond.code ({ cls := "LotBeliefs$Holds", name := "<init>", desc := "(LLotBeliefs$Term;ILLotBeliefs$Term;)V" } : Jvm.MethodName) prog_4_method_1_code (4 : Nat) (Option.none : Option Jvm.ClassFile.FieldType)) ∈ lw_all := lw_g (lw_at lw_m6 214 rfl) rfl
theorem q1539 : (Jvm.Cond.methodLinkNest "LotBeliefs$Holds" (1 : Nat) ({ cls := "LotBeliefs$Ground", name := "<init>", desc := "()V" } : Jvm.MethodName) "LotBeliefs") ∈ lw_tbl := lw_at lw_m6 215 rfl
theorem q1540 : (Jvm.Cond.fieldLink "LotBeliefs$Holds" (7 : Nat) "LotBeliefs$Holds" "a" "LLotBeliefs$Term;") ∈ lw_all := lw_g (lw_at lw_m6 216 rfl) rfl
theorem q1541 : (Jvm.Cond.fieldLink "LotBeliefs$Holds" (17 : Nat) "LotBeliefs$Holds" "b" "LLotBeliefs$Term;") ∈ lw_all := lw_g (lw_at lw_m6 217 rfl) rfl
theorem q1542 : (Jvm.Cond.fieldLink "LotBeliefs$Holds" (13 : Nat) "LotBeliefs$Holds" "sign" "I") ∈ lw_all := lw_g (lw_at lw_m6 218 rfl) rfl
theorem q1543 : (Jvm.Cond.laysFinal "LotBeliefs$Holds" "LotBeliefs$Holds" "a" "LLotBeliefs$Term;") ∈ lw_all := lw_g (lw_at lw_m6 219 rfl) rfl
theorem q1544 : (Jvm.Cond.soleField "LotBeliefs$Holds" "a") ∈ lw_all := lw_g (lw_at lw_m6 220 rfl) rfl
theorem q1545 : (Jvm.Cond.laysFinal "LotBeliefs$Holds" "LotBeliefs$Holds" "b" "LLotBeliefs$Term;") ∈ lw_all := lw_g (lw_at lw_m6 221 rfl) rfl
theorem q1546 : (Jvm.Cond.soleField "LotBeliefs$Holds" "b") ∈ lw_all := lw_g (lw_at lw_m6 222 rfl) rfl
theorem q1547 : (Jvm.Cond.laysFinal "LotBeliefs$Holds" "LotBeliefs$Holds" "sign" "I") ∈ lw_all := lw_g (lw_at lw_m6 223 rfl) rfl
theorem q1548 : (Jvm.Cond.soleField "LotBeliefs$Holds" "sign") ∈ lw_all := lw_g (lw_at lw_m6 224 rfl) rfl
theorem q1549 : (Jvm.Cond.superclass "LotBeliefs$Holds" "LotBeliefs$Ground") ∈ lw_all := lw_g (lw_at lw_m6 225 rfl) rfl
theorem q2702 : (Jvm.Cond.castable "LotBeliefs$Holds" "LotBeliefs$Ground") ∈ lw_tbl := lw_at lw_m11 178 rfl
theorem q2729 : (Jvm.Cond.castable "LotBeliefs$Holds" "java/lang/Object") ∈ lw_tbl := lw_at lw_m11 205 rfl

def RJ0 : String := "java/util/AbstractCollection"
abbrev cJ0_init : ByteArray := prog_47_method_1_code
def yJ0_init : MethodName := ⟨RJ0, "<init>", "()V"⟩
theorem dJ0_init_0 : decode cJ0_init 0 = .ok (.aload_n 0, 1) := by decide +kernel
theorem dJ0_init_1 : decode cJ0_init 1 = .ok (.invokespecial 1, 3) := by decide +kernel
theorem dJ0_init_4 : decode cJ0_init 4 = .ok (.return_, 1) := by decide +kernel
theorem q127 : (Jvm.Cond.initialized "java/util/AbstractCollection") ∈ lw_all := lw_g (lw_at lw_m1 3 rfl) rfl
theorem q191 : (Jvm.Cond.instanceMethod ({ cls := "java/util/AbstractCollection", name := "<init>", desc := "()V" } : Jvm.MethodName)) ∈ lw_all := lw_g (lw_at lw_m1 67 rfl) rfl
theorem q192 : (Jvm.Cond.code ({ cls := "java/util/AbstractCollection", name := "<init>", desc := "()V" } : Jvm.MethodName) prog_47_method_1_code (1 : Nat) (Option.none : Option Jvm.ClassFile.FieldType)) ∈ lw_all := lw_g (lw_at lw_m1 68 rfl) rfl
theorem q193 : (Jvm.Cond.methodLink "java/util/AbstractCollection" (1 : Nat) ({ cls := "java/lang/Object", name := "<init>", desc := "()V" } : Jvm.MethodName)) ∈ lw_all := lw_g (lw_at lw_m1 69 rfl) rfl

def RJ1 : String := "java/util/AbstractList"
abbrev cJ1_init : ByteArray := prog_48_method_1_code
def yJ1_init : MethodName := ⟨RJ1, "<init>", "()V"⟩
def dkwJ1_init_0 : List UInt8 := [42, 183, 0, 1, 42, 3, 181, 0, 7, 177]
abbrev dktJ1_init_0 : List UInt8 := dkwJ1_init_0 ++ []
theorem dksJ1_init_0 : cJ1_init.data.toList.drop 0 = dktJ1_init_0 := by decide +kernel
theorem dJ1_init_0 : decode cJ1_init 0 = .ok (.aload_n 0, 1) := dk_42 (dk_at dksJ1_init_0 0 rfl rfl)
theorem dJ1_init_1 : decode cJ1_init 1 = .ok (.invokespecial 1, 3) := dk_183 0 1 (dk_at dksJ1_init_0 1 rfl rfl)
theorem dJ1_init_4 : decode cJ1_init 4 = .ok (.aload_n 0, 1) := dk_42 (dk_at dksJ1_init_0 4 rfl rfl)
theorem dJ1_init_5 : decode cJ1_init 5 = .ok (.iconst 0, 1) := dk_3 (dk_at dksJ1_init_0 5 rfl rfl)
theorem dJ1_init_6 : decode cJ1_init 6 = .ok (.putfield 7, 3) := dk_181 0 7 (dk_at dksJ1_init_0 6 rfl rfl)
theorem dJ1_init_9 : decode cJ1_init 9 = .ok (.return_, 1) := dk_177 (dk_at dksJ1_init_0 9 rfl rfl)
theorem q128 : (Jvm.Cond.initialized "java/util/AbstractList") ∈ lw_all := lw_g (lw_at lw_m1 4 rfl) rfl
theorem q188 : (Jvm.Cond.instanceMethod ({ cls := "java/util/AbstractList", name := "<init>", desc := "()V" } : Jvm.MethodName)) ∈ lw_all := lw_g (lw_at lw_m1 64 rfl) rfl
theorem q189 : (Jvm.Cond.code ({ cls := "java/util/AbstractList", name := "<init>", desc := "()V" } : Jvm.MethodName) prog_48_method_1_code (1 : Nat) (Option.none : Option Jvm.ClassFile.FieldType)) ∈ lw_all := lw_g (lw_at lw_m1 65 rfl) rfl
theorem q190 : (Jvm.Cond.methodLink "java/util/AbstractList" (1 : Nat) ({ cls := "java/util/AbstractCollection", name := "<init>", desc := "()V" } : Jvm.MethodName)) ∈ lw_all := lw_g (lw_at lw_m1 66 rfl) rfl
theorem q516 : (Jvm.Cond.fieldLink "java/util/AbstractList" (7 : Nat) "java/util/AbstractList" "modCount" "I") ∈ lw_all := lw_g (lw_at lw_m2 152 rfl) rfl
theorem q524 : (Jvm.Cond.soleField "java/util/AbstractList" "modCount") ∈ lw_all := lw_g (lw_at lw_m2 160 rfl) rfl

abbrev cJ2_init : ByteArray := prog_49_method_1_code
def yJ2_init : MethodName := ⟨RJ2, "<init>", "(I)V"⟩
def dkwJ2_init_2 : List UInt8 := [182, 0, 25, 27, 182, 0, 29, 182, 0, 32, 183, 0, 36, 191, 177]
abbrev dktJ2_init_2 : List UInt8 := dkwJ2_init_2 ++ []
def dkwJ2_init_1 : List UInt8 := [178, 0, 15, 181, 0, 9, 167, 0, 30, 187, 0, 18, 89, 187, 0, 20, 89, 183, 0, 22, 18, 23]
abbrev dktJ2_init_1 : List UInt8 := dkwJ2_init_1 ++ dktJ2_init_2
def dkwJ2_init_0 : List UInt8 := [42, 183, 0, 1, 27, 158, 0, 14, 42, 27, 189, 0, 7, 181, 0, 9, 167, 0, 44, 27, 154, 0, 13, 42]
abbrev dktJ2_init_0 : List UInt8 := dkwJ2_init_0 ++ dktJ2_init_1
theorem dksJ2_init_0 : cJ2_init.data.toList.drop 0 = dktJ2_init_0 := by decide +kernel
theorem dksJ2_init_1 : cJ2_init.data.toList.drop 24 = dktJ2_init_1 := dk_seg dksJ2_init_0 24 rfl rfl
theorem dksJ2_init_2 : cJ2_init.data.toList.drop 46 = dktJ2_init_2 := dk_seg dksJ2_init_1 22 rfl rfl
theorem dJ2_init_0 : decode cJ2_init 0 = .ok (.aload_n 0, 1) := dk_42 (dk_at dksJ2_init_0 0 rfl rfl)
theorem dJ2_init_1 : decode cJ2_init 1 = .ok (.invokespecial 1, 3) := dk_183 0 1 (dk_at dksJ2_init_0 1 rfl rfl)
theorem dJ2_init_4 : decode cJ2_init 4 = .ok (.iload_n 1, 1) := dk_27 (dk_at dksJ2_init_0 4 rfl rfl)
theorem dJ2_init_5 : decode cJ2_init 5 = .ok (.ifCond .le 14, 3) := dk_158 0 14 (dk_at dksJ2_init_0 5 rfl rfl)
theorem dJ2_init_8 : decode cJ2_init 8 = .ok (.aload_n 0, 1) := dk_42 (dk_at dksJ2_init_0 8 rfl rfl)
theorem dJ2_init_9 : decode cJ2_init 9 = .ok (.iload_n 1, 1) := dk_27 (dk_at dksJ2_init_0 9 rfl rfl)
theorem dJ2_init_10 : decode cJ2_init 10 = .ok (.anewarray 7, 3) := dk_189 0 7 (dk_at dksJ2_init_0 10 rfl rfl)
theorem dJ2_init_13 : decode cJ2_init 13 = .ok (.putfield 9, 3) := dk_181 0 9 (dk_at dksJ2_init_0 13 rfl rfl)
theorem dJ2_init_16 : decode cJ2_init 16 = .ok (.goto 44, 3) := dk_167 0 44 (dk_at dksJ2_init_0 16 rfl rfl)
theorem dJ2_init_19 : decode cJ2_init 19 = .ok (.iload_n 1, 1) := dk_27 (dk_at dksJ2_init_0 19 rfl rfl)
theorem dJ2_init_20 : decode cJ2_init 20 = .ok (.ifCond .ne 13, 3) := dk_154 0 13 (dk_at dksJ2_init_0 20 rfl rfl)
theorem dJ2_init_23 : decode cJ2_init 23 = .ok (.aload_n 0, 1) := dk_42 (dk_at dksJ2_init_0 23 rfl rfl)
theorem dJ2_init_24 : decode cJ2_init 24 = .ok (.getstatic 15, 3) := dk_178 0 15 (dk_at dksJ2_init_1 0 rfl rfl)
theorem dJ2_init_27 : decode cJ2_init 27 = .ok (.putfield 9, 3) := dk_181 0 9 (dk_at dksJ2_init_1 3 rfl rfl)
theorem dJ2_init_30 : decode cJ2_init 30 = .ok (.goto 30, 3) := dk_167 0 30 (dk_at dksJ2_init_1 6 rfl rfl)
theorem dJ2_init_33 : decode cJ2_init 33 = .ok (.new 18, 3) := dk_187 0 18 (dk_at dksJ2_init_1 9 rfl rfl)
theorem dJ2_init_36 : decode cJ2_init 36 = .ok (.dup, 1) := dk_89 (dk_at dksJ2_init_1 12 rfl rfl)
theorem dJ2_init_37 : decode cJ2_init 37 = .ok (.new 20, 3) := dk_187 0 20 (dk_at dksJ2_init_1 13 rfl rfl)
theorem dJ2_init_40 : decode cJ2_init 40 = .ok (.dup, 1) := dk_89 (dk_at dksJ2_init_1 16 rfl rfl)
theorem dJ2_init_41 : decode cJ2_init 41 = .ok (.invokespecial 22, 3) := dk_183 0 22 (dk_at dksJ2_init_1 17 rfl rfl)
theorem dJ2_init_44 : decode cJ2_init 44 = .ok (.ldc 23, 2) := dk_18 23 (dk_at dksJ2_init_1 20 rfl rfl)
theorem dJ2_init_46 : decode cJ2_init 46 = .ok (.invokevirtual 25, 3) := dk_182 0 25 (dk_at dksJ2_init_2 0 rfl rfl)
theorem dJ2_init_49 : decode cJ2_init 49 = .ok (.iload_n 1, 1) := dk_27 (dk_at dksJ2_init_2 3 rfl rfl)
theorem dJ2_init_50 : decode cJ2_init 50 = .ok (.invokevirtual 29, 3) := dk_182 0 29 (dk_at dksJ2_init_2 4 rfl rfl)
theorem dJ2_init_53 : decode cJ2_init 53 = .ok (.invokevirtual 32, 3) := dk_182 0 32 (dk_at dksJ2_init_2 7 rfl rfl)
theorem dJ2_init_56 : decode cJ2_init 56 = .ok (.invokespecial 36, 3) := dk_183 0 36 (dk_at dksJ2_init_2 10 rfl rfl)
theorem dJ2_init_59 : decode cJ2_init 59 = .ok (.athrow, 1) := dk_191 (dk_at dksJ2_init_2 13 rfl rfl)
theorem dJ2_init_60 : decode cJ2_init 60 = .ok (.return_, 1) := dk_177 (dk_at dksJ2_init_2 14 rfl rfl)
abbrev cJ2_size : ByteArray := prog_49_method_8_code
def yJ2_size : MethodName := ⟨RJ2, "size", "()I"⟩
theorem dJ2_size_0 : decode cJ2_size 0 = .ok (.aload_n 0, 1) := by decide +kernel
theorem dJ2_size_1 : decode cJ2_size 1 = .ok (.getfield 48, 3) := by decide +kernel
theorem dJ2_size_4 : decode cJ2_size 4 = .ok (.ireturn, 1) := by decide +kernel
abbrev cJ2_get : ByteArray := prog_49_method_20_code
def yJ2_get : MethodName := ⟨RJ2, "get", "(I)Ljava/lang/Object;"⟩
def dkwJ2_get_0 : List UInt8 := [27, 42, 180, 0, 48, 184, 0, 118, 87, 42, 27, 182, 0, 123, 176]
abbrev dktJ2_get_0 : List UInt8 := dkwJ2_get_0 ++ []
theorem dksJ2_get_0 : cJ2_get.data.toList.drop 0 = dktJ2_get_0 := by decide +kernel
theorem dJ2_get_0 : decode cJ2_get 0 = .ok (.iload_n 1, 1) := dk_27 (dk_at dksJ2_get_0 0 rfl rfl)
theorem dJ2_get_1 : decode cJ2_get 1 = .ok (.aload_n 0, 1) := dk_42 (dk_at dksJ2_get_0 1 rfl rfl)
theorem dJ2_get_2 : decode cJ2_get 2 = .ok (.getfield 48, 3) := dk_180 0 48 (dk_at dksJ2_get_0 2 rfl rfl)
theorem dJ2_get_5 : decode cJ2_get 5 = .ok (.invokestatic 118, 3) := dk_184 0 118 (dk_at dksJ2_get_0 5 rfl rfl)
theorem dJ2_get_8 : decode cJ2_get 8 = .ok (.pop, 1) := dk_87 (dk_at dksJ2_get_0 8 rfl rfl)
theorem dJ2_get_9 : decode cJ2_get 9 = .ok (.aload_n 0, 1) := dk_42 (dk_at dksJ2_get_0 9 rfl rfl)
theorem dJ2_get_10 : decode cJ2_get 10 = .ok (.iload_n 1, 1) := dk_27 (dk_at dksJ2_get_0 10 rfl rfl)
theorem dJ2_get_11 : decode cJ2_get 11 = .ok (.invokevirtual 123, 3) := dk_182 0 123 (dk_at dksJ2_get_0 11 rfl rfl)
theorem dJ2_get_14 : decode cJ2_get 14 = .ok (.areturn, 1) := dk_176 (dk_at dksJ2_get_0 14 rfl rfl)
abbrev cJ2_elementData : ByteArray := prog_49_method_18_code
def yJ2_elementData : MethodName := ⟨RJ2, "elementData", "(I)Ljava/lang/Object;"⟩
def dkwJ2_elementData_0 : List UInt8 := [42, 180, 0, 9, 27, 50, 176]
abbrev dktJ2_elementData_0 : List UInt8 := dkwJ2_elementData_0 ++ []
theorem dksJ2_elementData_0 : cJ2_elementData.data.toList.drop 0 = dktJ2_elementData_0 := by decide +kernel
theorem dJ2_elementData_0 : decode cJ2_elementData 0 = .ok (.aload_n 0, 1) := dk_42 (dk_at dksJ2_elementData_0 0 rfl rfl)
theorem dJ2_elementData_1 : decode cJ2_elementData 1 = .ok (.getfield 9, 3) := dk_180 0 9 (dk_at dksJ2_elementData_0 1 rfl rfl)
theorem dJ2_elementData_4 : decode cJ2_elementData 4 = .ok (.iload_n 1, 1) := dk_27 (dk_at dksJ2_elementData_0 4 rfl rfl)
theorem dJ2_elementData_5 : decode cJ2_elementData 5 = .ok (.aaload, 1) := dk_50 (dk_at dksJ2_elementData_0 5 rfl rfl)
theorem dJ2_elementData_6 : decode cJ2_elementData 6 = .ok (.areturn, 1) := dk_176 (dk_at dksJ2_elementData_0 6 rfl rfl)
abbrev cJ2_add : ByteArray := prog_49_method_25_code
def yJ2_add : MethodName := ⟨RJ2, "add", "(Ljava/lang/Object;)Z"⟩
def dkwJ2_add_1 : List UInt8 := [172]
abbrev dktJ2_add_1 : List UInt8 := dkwJ2_add_1 ++ []
def dkwJ2_add_0 : List UInt8 := [42, 89, 180, 0, 63, 4, 96, 181, 0, 63, 42, 43, 42, 180, 0, 9, 42, 180, 0, 48, 182, 0, 131, 4]
abbrev dktJ2_add_0 : List UInt8 := dkwJ2_add_0 ++ dktJ2_add_1
theorem dksJ2_add_0 : cJ2_add.data.toList.drop 0 = dktJ2_add_0 := by decide +kernel
theorem dksJ2_add_1 : cJ2_add.data.toList.drop 24 = dktJ2_add_1 := dk_seg dksJ2_add_0 24 rfl rfl
theorem dJ2_add_0 : decode cJ2_add 0 = .ok (.aload_n 0, 1) := dk_42 (dk_at dksJ2_add_0 0 rfl rfl)
theorem dJ2_add_1 : decode cJ2_add 1 = .ok (.dup, 1) := dk_89 (dk_at dksJ2_add_0 1 rfl rfl)
theorem dJ2_add_2 : decode cJ2_add 2 = .ok (.getfield 63, 3) := dk_180 0 63 (dk_at dksJ2_add_0 2 rfl rfl)
theorem dJ2_add_5 : decode cJ2_add 5 = .ok (.iconst 1, 1) := dk_4 (dk_at dksJ2_add_0 5 rfl rfl)
theorem dJ2_add_6 : decode cJ2_add 6 = .ok (.iadd, 1) := dk_96 (dk_at dksJ2_add_0 6 rfl rfl)
theorem dJ2_add_7 : decode cJ2_add 7 = .ok (.putfield 63, 3) := dk_181 0 63 (dk_at dksJ2_add_0 7 rfl rfl)
theorem dJ2_add_10 : decode cJ2_add 10 = .ok (.aload_n 0, 1) := dk_42 (dk_at dksJ2_add_0 10 rfl rfl)
theorem dJ2_add_11 : decode cJ2_add 11 = .ok (.aload_n 1, 1) := dk_43 (dk_at dksJ2_add_0 11 rfl rfl)
theorem dJ2_add_12 : decode cJ2_add 12 = .ok (.aload_n 0, 1) := dk_42 (dk_at dksJ2_add_0 12 rfl rfl)
theorem dJ2_add_13 : decode cJ2_add 13 = .ok (.getfield 9, 3) := dk_180 0 9 (dk_at dksJ2_add_0 13 rfl rfl)
theorem dJ2_add_16 : decode cJ2_add 16 = .ok (.aload_n 0, 1) := dk_42 (dk_at dksJ2_add_0 16 rfl rfl)
theorem dJ2_add_17 : decode cJ2_add 17 = .ok (.getfield 48, 3) := dk_180 0 48 (dk_at dksJ2_add_0 17 rfl rfl)
theorem dJ2_add_20 : decode cJ2_add 20 = .ok (.invokevirtual 131, 3) := dk_182 0 131 (dk_at dksJ2_add_0 20 rfl rfl)
theorem dJ2_add_23 : decode cJ2_add 23 = .ok (.iconst 1, 1) := dk_4 (dk_at dksJ2_add_0 23 rfl rfl)
theorem dJ2_add_24 : decode cJ2_add 24 = .ok (.ireturn, 1) := dk_172 (dk_at dksJ2_add_1 0 rfl rfl)
abbrev cJ2_add_2 : ByteArray := prog_49_method_24_code
def yJ2_add_2 : MethodName := ⟨RJ2, "add", "(Ljava/lang/Object;[Ljava/lang/Object;I)V"⟩
def dkwJ2_add_2_0 : List UInt8 := [29, 44, 190, 160, 0, 8, 42, 182, 0, 129, 77, 44, 29, 43, 83, 42, 29, 4, 96, 181, 0, 48, 177]
abbrev dktJ2_add_2_0 : List UInt8 := dkwJ2_add_2_0 ++ []
theorem dksJ2_add_2_0 : cJ2_add_2.data.toList.drop 0 = dktJ2_add_2_0 := by decide +kernel
theorem dJ2_add_2_0 : decode cJ2_add_2 0 = .ok (.iload_n 3, 1) := dk_29 (dk_at dksJ2_add_2_0 0 rfl rfl)
theorem dJ2_add_2_1 : decode cJ2_add_2 1 = .ok (.aload_n 2, 1) := dk_44 (dk_at dksJ2_add_2_0 1 rfl rfl)
theorem dJ2_add_2_2 : decode cJ2_add_2 2 = .ok (.arraylength, 1) := dk_190 (dk_at dksJ2_add_2_0 2 rfl rfl)
theorem dJ2_add_2_3 : decode cJ2_add_2 3 = .ok (.if_icmp .ne 8, 3) := dk_160 0 8 (dk_at dksJ2_add_2_0 3 rfl rfl)
theorem dJ2_add_2_6 : decode cJ2_add_2 6 = .ok (.aload_n 0, 1) := dk_42 (dk_at dksJ2_add_2_0 6 rfl rfl)
theorem dJ2_add_2_7 : decode cJ2_add_2 7 = .ok (.invokevirtual 129, 3) := dk_182 0 129 (dk_at dksJ2_add_2_0 7 rfl rfl)
theorem dJ2_add_2_10 : decode cJ2_add_2 10 = .ok (.astore_n 2, 1) := dk_77 (dk_at dksJ2_add_2_0 10 rfl rfl)
theorem dJ2_add_2_11 : decode cJ2_add_2 11 = .ok (.aload_n 2, 1) := dk_44 (dk_at dksJ2_add_2_0 11 rfl rfl)
theorem dJ2_add_2_12 : decode cJ2_add_2 12 = .ok (.iload_n 3, 1) := dk_29 (dk_at dksJ2_add_2_0 12 rfl rfl)
theorem dJ2_add_2_13 : decode cJ2_add_2 13 = .ok (.aload_n 1, 1) := dk_43 (dk_at dksJ2_add_2_0 13 rfl rfl)
theorem dJ2_add_2_14 : decode cJ2_add_2 14 = .ok (.aastore, 1) := dk_83 (dk_at dksJ2_add_2_0 14 rfl rfl)
theorem dJ2_add_2_15 : decode cJ2_add_2 15 = .ok (.aload_n 0, 1) := dk_42 (dk_at dksJ2_add_2_0 15 rfl rfl)
theorem dJ2_add_2_16 : decode cJ2_add_2 16 = .ok (.iload_n 3, 1) := dk_29 (dk_at dksJ2_add_2_0 16 rfl rfl)
theorem dJ2_add_2_17 : decode cJ2_add_2 17 = .ok (.iconst 1, 1) := dk_4 (dk_at dksJ2_add_2_0 17 rfl rfl)
theorem dJ2_add_2_18 : decode cJ2_add_2 18 = .ok (.iadd, 1) := dk_96 (dk_at dksJ2_add_2_0 18 rfl rfl)
theorem dJ2_add_2_19 : decode cJ2_add_2 19 = .ok (.putfield 48, 3) := dk_181 0 48 (dk_at dksJ2_add_2_0 19 rfl rfl)
theorem dJ2_add_2_22 : decode cJ2_add_2 22 = .ok (.return_, 1) := dk_177 (dk_at dksJ2_add_2_0 22 rfl rfl)
abbrev cJ2_grow : ByteArray := prog_49_method_7_code
def yJ2_grow : MethodName := ⟨RJ2, "grow", "()[Ljava/lang/Object;"⟩
def dkwJ2_grow_0 : List UInt8 := [42, 42, 180, 0, 48, 4, 96, 182, 0, 69, 176]
abbrev dktJ2_grow_0 : List UInt8 := dkwJ2_grow_0 ++ []
theorem dksJ2_grow_0 : cJ2_grow.data.toList.drop 0 = dktJ2_grow_0 := by decide +kernel
theorem dJ2_grow_0 : decode cJ2_grow 0 = .ok (.aload_n 0, 1) := dk_42 (dk_at dksJ2_grow_0 0 rfl rfl)
theorem dJ2_grow_1 : decode cJ2_grow 1 = .ok (.aload_n 0, 1) := dk_42 (dk_at dksJ2_grow_0 1 rfl rfl)
theorem dJ2_grow_2 : decode cJ2_grow 2 = .ok (.getfield 48, 3) := dk_180 0 48 (dk_at dksJ2_grow_0 2 rfl rfl)
theorem dJ2_grow_5 : decode cJ2_grow 5 = .ok (.iconst 1, 1) := dk_4 (dk_at dksJ2_grow_0 5 rfl rfl)
theorem dJ2_grow_6 : decode cJ2_grow 6 = .ok (.iadd, 1) := dk_96 (dk_at dksJ2_grow_0 6 rfl rfl)
theorem dJ2_grow_7 : decode cJ2_grow 7 = .ok (.invokevirtual 69, 3) := dk_182 0 69 (dk_at dksJ2_grow_0 7 rfl rfl)
theorem dJ2_grow_10 : decode cJ2_grow 10 = .ok (.areturn, 1) := dk_176 (dk_at dksJ2_grow_0 10 rfl rfl)
abbrev cJ2_grow_2 : ByteArray := prog_49_method_6_code
def yJ2_grow_2 : MethodName := ⟨RJ2, "grow", "(I)[Ljava/lang/Object;"⟩
def dkwJ2_grow_2_2 : List UInt8 := [27, 184, 0, 79, 189, 0, 7, 90, 181, 0, 9, 176]
abbrev dktJ2_grow_2_2 : List UInt8 := dkwJ2_grow_2_2 ++ []
def dkwJ2_grow_2_1 : List UInt8 := [28, 4, 122, 184, 0, 73, 62, 42, 42, 180, 0, 9, 29, 184, 0, 66, 90, 181, 0, 9, 176, 42, 16, 10]
abbrev dktJ2_grow_2_1 : List UInt8 := dkwJ2_grow_2_1 ++ dktJ2_grow_2_2
def dkwJ2_grow_2_0 : List UInt8 := [42, 180, 0, 9, 190, 61, 28, 157, 0, 13, 42, 180, 0, 9, 178, 0, 39, 165, 0, 28, 28, 27, 28, 100]
abbrev dktJ2_grow_2_0 : List UInt8 := dkwJ2_grow_2_0 ++ dktJ2_grow_2_1
theorem dksJ2_grow_2_0 : cJ2_grow_2.data.toList.drop 0 = dktJ2_grow_2_0 := by decide +kernel
theorem dksJ2_grow_2_1 : cJ2_grow_2.data.toList.drop 24 = dktJ2_grow_2_1 := dk_seg dksJ2_grow_2_0 24 rfl rfl
theorem dksJ2_grow_2_2 : cJ2_grow_2.data.toList.drop 48 = dktJ2_grow_2_2 := dk_seg dksJ2_grow_2_1 24 rfl rfl
theorem dJ2_grow_2_0 : decode cJ2_grow_2 0 = .ok (.aload_n 0, 1) := dk_42 (dk_at dksJ2_grow_2_0 0 rfl rfl)
theorem dJ2_grow_2_1 : decode cJ2_grow_2 1 = .ok (.getfield 9, 3) := dk_180 0 9 (dk_at dksJ2_grow_2_0 1 rfl rfl)
theorem dJ2_grow_2_4 : decode cJ2_grow_2 4 = .ok (.arraylength, 1) := dk_190 (dk_at dksJ2_grow_2_0 4 rfl rfl)
theorem dJ2_grow_2_5 : decode cJ2_grow_2 5 = .ok (.istore_n 2, 1) := dk_61 (dk_at dksJ2_grow_2_0 5 rfl rfl)
theorem dJ2_grow_2_6 : decode cJ2_grow_2 6 = .ok (.iload_n 2, 1) := dk_28 (dk_at dksJ2_grow_2_0 6 rfl rfl)
theorem dJ2_grow_2_7 : decode cJ2_grow_2 7 = .ok (.ifCond .gt 13, 3) := dk_157 0 13 (dk_at dksJ2_grow_2_0 7 rfl rfl)
theorem dJ2_grow_2_10 : decode cJ2_grow_2 10 = .ok (.aload_n 0, 1) := dk_42 (dk_at dksJ2_grow_2_0 10 rfl rfl)
theorem dJ2_grow_2_11 : decode cJ2_grow_2 11 = .ok (.getfield 9, 3) := dk_180 0 9 (dk_at dksJ2_grow_2_0 11 rfl rfl)
theorem dJ2_grow_2_14 : decode cJ2_grow_2 14 = .ok (.getstatic 39, 3) := dk_178 0 39 (dk_at dksJ2_grow_2_0 14 rfl rfl)
theorem dJ2_grow_2_17 : decode cJ2_grow_2 17 = .ok (.if_acmp .eq 28, 3) := dk_165 0 28 (dk_at dksJ2_grow_2_0 17 rfl rfl)
theorem dJ2_grow_2_20 : decode cJ2_grow_2 20 = .ok (.iload_n 2, 1) := dk_28 (dk_at dksJ2_grow_2_0 20 rfl rfl)
theorem dJ2_grow_2_21 : decode cJ2_grow_2 21 = .ok (.iload_n 1, 1) := dk_27 (dk_at dksJ2_grow_2_0 21 rfl rfl)
theorem dJ2_grow_2_22 : decode cJ2_grow_2 22 = .ok (.iload_n 2, 1) := dk_28 (dk_at dksJ2_grow_2_0 22 rfl rfl)
theorem dJ2_grow_2_23 : decode cJ2_grow_2 23 = .ok (.isub, 1) := dk_100 (dk_at dksJ2_grow_2_0 23 rfl rfl)
theorem dJ2_grow_2_24 : decode cJ2_grow_2 24 = .ok (.iload_n 2, 1) := dk_28 (dk_at dksJ2_grow_2_1 0 rfl rfl)
theorem dJ2_grow_2_25 : decode cJ2_grow_2 25 = .ok (.iconst 1, 1) := dk_4 (dk_at dksJ2_grow_2_1 1 rfl rfl)
theorem dJ2_grow_2_26 : decode cJ2_grow_2 26 = .ok (.ishr, 1) := dk_122 (dk_at dksJ2_grow_2_1 2 rfl rfl)
theorem dJ2_grow_2_27 : decode cJ2_grow_2 27 = .ok (.invokestatic 73, 3) := dk_184 0 73 (dk_at dksJ2_grow_2_1 3 rfl rfl)
theorem dJ2_grow_2_30 : decode cJ2_grow_2 30 = .ok (.istore_n 3, 1) := dk_62 (dk_at dksJ2_grow_2_1 6 rfl rfl)
theorem dJ2_grow_2_31 : decode cJ2_grow_2 31 = .ok (.aload_n 0, 1) := dk_42 (dk_at dksJ2_grow_2_1 7 rfl rfl)
theorem dJ2_grow_2_32 : decode cJ2_grow_2 32 = .ok (.aload_n 0, 1) := dk_42 (dk_at dksJ2_grow_2_1 8 rfl rfl)
theorem dJ2_grow_2_33 : decode cJ2_grow_2 33 = .ok (.getfield 9, 3) := dk_180 0 9 (dk_at dksJ2_grow_2_1 9 rfl rfl)
theorem dJ2_grow_2_36 : decode cJ2_grow_2 36 = .ok (.iload_n 3, 1) := dk_29 (dk_at dksJ2_grow_2_1 12 rfl rfl)
theorem dJ2_grow_2_37 : decode cJ2_grow_2 37 = .ok (.invokestatic 66, 3) := dk_184 0 66 (dk_at dksJ2_grow_2_1 13 rfl rfl)
theorem dJ2_grow_2_40 : decode cJ2_grow_2 40 = .ok (.dup_x1, 1) := dk_90 (dk_at dksJ2_grow_2_1 16 rfl rfl)
theorem dJ2_grow_2_41 : decode cJ2_grow_2 41 = .ok (.putfield 9, 3) := dk_181 0 9 (dk_at dksJ2_grow_2_1 17 rfl rfl)
theorem dJ2_grow_2_44 : decode cJ2_grow_2 44 = .ok (.areturn, 1) := dk_176 (dk_at dksJ2_grow_2_1 20 rfl rfl)
theorem dJ2_grow_2_45 : decode cJ2_grow_2 45 = .ok (.aload_n 0, 1) := dk_42 (dk_at dksJ2_grow_2_1 21 rfl rfl)
theorem dJ2_grow_2_46 : decode cJ2_grow_2 46 = .ok (.bipush 10, 2) := dk_16 10 (dk_at dksJ2_grow_2_1 22 rfl rfl)
theorem dJ2_grow_2_48 : decode cJ2_grow_2 48 = .ok (.iload_n 1, 1) := dk_27 (dk_at dksJ2_grow_2_2 0 rfl rfl)
theorem dJ2_grow_2_49 : decode cJ2_grow_2 49 = .ok (.invokestatic 79, 3) := dk_184 0 79 (dk_at dksJ2_grow_2_2 1 rfl rfl)
theorem dJ2_grow_2_52 : decode cJ2_grow_2 52 = .ok (.anewarray 7, 3) := dk_189 0 7 (dk_at dksJ2_grow_2_2 4 rfl rfl)
theorem dJ2_grow_2_55 : decode cJ2_grow_2 55 = .ok (.dup_x1, 1) := dk_90 (dk_at dksJ2_grow_2_2 7 rfl rfl)
theorem dJ2_grow_2_56 : decode cJ2_grow_2 56 = .ok (.putfield 9, 3) := dk_181 0 9 (dk_at dksJ2_grow_2_2 8 rfl rfl)
theorem dJ2_grow_2_59 : decode cJ2_grow_2 59 = .ok (.areturn, 1) := dk_176 (dk_at dksJ2_grow_2_2 11 rfl rfl)
theorem q129 : (Jvm.Cond.initialized "java/util/ArrayList") ∈ lw_all := lw_g (lw_at lw_m1 5 rfl) rfl
theorem q183 : (Jvm.Cond.instantiable "java/util/ArrayList" (3 : Nat)) ∈ lw_all := lw_g (lw_at lw_m1 59 rfl) rfl
theorem q185 : (Jvm.Cond.instanceMethod ({ cls := "java/util/ArrayList", name := "<init>", desc := "(I)V" } : Jvm.MethodName)) ∈ lw_all := lw_g (lw_at lw_m1 61 rfl) rfl
theorem q186 : (Jvm.Cond.code ({ cls := "java/util/ArrayList", name := "<init>", desc := "(I)V" } : Jvm.MethodName) prog_49_method_1_code (2 : Nat) (Option.none : Option Jvm.ClassFile.FieldType)) ∈ lw_all := lw_g (lw_at lw_m1 62 rfl) rfl
theorem q187 : (Jvm.Cond.methodLink "java/util/ArrayList" (1 : Nat) ({ cls := "java/util/AbstractList", name := "<init>", desc := "()V" } : Jvm.MethodName)) ∈ lw_all := lw_g (lw_at lw_m1 63 rfl) rfl
theorem q194 : (Jvm.Cond.classLink "java/util/ArrayList" (7 : Nat) "java/lang/Object") ∈ lw_all := lw_g (lw_at lw_m1 70 rfl) rfl
theorem q196 : (Jvm.Cond.fieldLink "java/util/ArrayList" (15 : Nat) "java/util/ArrayList" "EMPTY_ELEMENTDATA" "[Ljava/lang/Object;") ∈ lw_all := lw_g (lw_at lw_m1 72 rfl) rfl
theorem q197 : (Jvm.Cond.laysStatic "java/util/ArrayList" "EMPTY_ELEMENTDATA" "[Ljava/lang/Object;") ∈ lw_tbl := lw_at lw_m1 73 rfl
theorem q198 : (Jvm.Cond.classLink "java/util/ArrayList" (18 : Nat) "java/lang/IllegalArgumentException") ∈ lw_all := lw_g (lw_at lw_m1 74 rfl) rfl
theorem q241 : (Jvm.Cond.classLink "java/util/ArrayList" (20 : Nat) "java/lang/StringBuilder") ∈ lw_all := lw_g (lw_at lw_m1 117 rfl) rfl
theorem q243 : (Jvm.Cond.methodLink "java/util/ArrayList" (22 : Nat) ({ cls := "java/lang/StringBuilder", name := "<init>", desc := "()V" } : Jvm.MethodName)) ∈ lw_all := lw_g (lw_at lw_m1 119 rfl) rfl
theorem q273 : (Jvm.Cond.stringRef "java/util/ArrayList" (23 : Nat) "Illegal Capacity: ") ∈ lw_tbl := lw_at lw_m1 149 rfl
theorem q274 : (Jvm.Cond.methodLink "java/util/ArrayList" (25 : Nat) ({ cls := "java/lang/StringBuilder", name := "append", desc := "(Ljava/lang/String;)Ljava/lang/StringBuilder;" } : Jvm.MethodName)) ∈ lw_all := lw_g (lw_at lw_m1 150 rfl) rfl
theorem q394 : (Jvm.Cond.methodLink "java/util/ArrayList" (29 : Nat) ({ cls := "java/lang/StringBuilder", name := "append", desc := "(I)Ljava/lang/StringBuilder;" } : Jvm.MethodName)) ∈ lw_all := lw_g (lw_at lw_m2 30 rfl) rfl
theorem q419 : (Jvm.Cond.methodLink "java/util/ArrayList" (32 : Nat) ({ cls := "java/lang/StringBuilder", name := "toString", desc := "()Ljava/lang/String;" } : Jvm.MethodName)) ∈ lw_all := lw_g (lw_at lw_m2 55 rfl) rfl
theorem q513 : (Jvm.Cond.methodLink "java/util/ArrayList" (36 : Nat) ({ cls := "java/lang/IllegalArgumentException", name := "<init>", desc := "(Ljava/lang/String;)V" } : Jvm.MethodName)) ∈ lw_all := lw_g (lw_at lw_m2 149 rfl) rfl
theorem q514 : (Jvm.Cond.fieldLink "java/util/ArrayList" (9 : Nat) "java/util/ArrayList" "elementData" "[Ljava/lang/Object;") ∈ lw_all := lw_g (lw_at lw_m2 150 rfl) rfl
theorem q515 : (Jvm.Cond.fieldLink "java/util/ArrayList" (48 : Nat) "java/util/ArrayList" "size" "I") ∈ lw_all := lw_g (lw_at lw_m2 151 rfl) rfl
theorem q517 : (Jvm.Cond.fieldLink "java/util/ArrayList" (63 : Nat) "java/util/ArrayList" "modCount" "I") ∈ lw_all := lw_g (lw_at lw_m2 153 rfl) rfl
theorem q518 : (Jvm.Cond.sameField "java/util/ArrayList" "java/util/AbstractList" "modCount" "I") ∈ lw_all := lw_g (lw_at lw_m2 154 rfl) rfl
theorem q519 : (Jvm.Cond.lays "java/util/ArrayList" "java/util/ArrayList" "elementData" "[Ljava/lang/Object;") ∈ lw_all := lw_g (lw_at lw_m2 155 rfl) rfl
theorem q520 : (Jvm.Cond.soleField "java/util/ArrayList" "elementData") ∈ lw_all := lw_g (lw_at lw_m2 156 rfl) rfl
theorem q521 : (Jvm.Cond.lays "java/util/ArrayList" "java/util/ArrayList" "size" "I") ∈ lw_all := lw_g (lw_at lw_m2 157 rfl) rfl
theorem q522 : (Jvm.Cond.soleField "java/util/ArrayList" "size") ∈ lw_all := lw_g (lw_at lw_m2 158 rfl) rfl
theorem q523 : (Jvm.Cond.lays "java/util/ArrayList" "java/util/AbstractList" "modCount" "I") ∈ lw_all := lw_g (lw_at lw_m2 159 rfl) rfl
theorem q525 : (Jvm.Cond.superclass "java/util/ArrayList" "java/util/AbstractList") ∈ lw_all := lw_g (lw_at lw_m2 161 rfl) rfl
theorem q675 : (Jvm.Cond.instanceMethod ({ cls := "java/util/ArrayList", name := "size", desc := "()I" } : Jvm.MethodName)) ∈ lw_all := lw_g (lw_at lw_m3 71 rfl) rfl
theorem q676 : (Jvm.Cond.selects "java/util/ArrayList" ({ cls := "java/util/ArrayList", name := "size", desc := "()I" } : Jvm.MethodName) ({ cls := "java/util/ArrayList", name := "size", desc := "()I" } : Jvm.MethodName)) ∈ lw_all := lw_g (lw_at lw_m3 72 rfl) rfl
theorem q677 : (Jvm.Cond.code ({ cls := "java/util/ArrayList", name := "size", desc := "()I" } : Jvm.MethodName) prog_49_method_8_code (1 : Nat) (Option.some Jvm.ClassFile.FieldType.int)) ∈ lw_all := lw_g (lw_at lw_m3 73 rfl) rfl
theorem q679 : (Jvm.Cond.instanceMethod ({ cls := "java/util/ArrayList", name := "get", desc := "(I)Ljava/lang/Object;" } : Jvm.MethodName)) ∈ lw_all := lw_g (lw_at lw_m3 75 rfl) rfl
theorem q680 : (Jvm.Cond.selects "java/util/ArrayList" ({ cls := "java/util/ArrayList", name := "get", desc := "(I)Ljava/lang/Object;" } : Jvm.MethodName) ({ cls := "java/util/ArrayList", name := "get", desc := "(I)Ljava/lang/Object;" } : Jvm.MethodName)) ∈ lw_all := lw_g (lw_at lw_m3 76 rfl) rfl
theorem q681 : (Jvm.Cond.code ({ cls := "java/util/ArrayList", name := "get", desc := "(I)Ljava/lang/Object;" } : Jvm.MethodName) prog_49_method_20_code (2 : Nat) (Option.some (Jvm.ClassFile.FieldType.object "java/lang/Object"))) ∈ lw_all := lw_g (lw_at lw_m3 77 rfl) rfl
theorem q682 : (Jvm.Cond.methodLink "java/util/ArrayList" (118 : Nat) ({ cls := "java/util/Objects", name := "checkIndex", desc := "(II)I" } : Jvm.MethodName)) ∈ lw_all := lw_g (lw_at lw_m3 78 rfl) rfl
theorem q688 : (Jvm.Cond.methodLink "java/util/ArrayList" (123 : Nat) ({ cls := "java/util/ArrayList", name := "elementData", desc := "(I)Ljava/lang/Object;" } : Jvm.MethodName)) ∈ lw_all := lw_g (lw_at lw_m3 84 rfl) rfl
theorem q689 : (Jvm.Cond.instanceMethod ({ cls := "java/util/ArrayList", name := "elementData", desc := "(I)Ljava/lang/Object;" } : Jvm.MethodName)) ∈ lw_all := lw_g (lw_at lw_m3 85 rfl) rfl
theorem q690 : (Jvm.Cond.selects "java/util/ArrayList" ({ cls := "java/util/ArrayList", name := "elementData", desc := "(I)Ljava/lang/Object;" } : Jvm.MethodName) ({ cls := "java/util/ArrayList", name := "elementData", desc := "(I)Ljava/lang/Object;" } : Jvm.MethodName)) ∈ lw_all := lw_g (lw_at lw_m3 86 rfl) rfl
theorem q691 : (Jvm.Cond.code ({ cls := "java/util/ArrayList", name := "elementData", desc := "(I)Ljava/lang/Object;" } : Jvm.MethodName) prog_49_method_18_code (2 : Nat) (Option.some (Jvm.ClassFile.FieldType.object "java/lang/Object"))) ∈ lw_all := lw_g (lw_at lw_m3 87 rfl) rfl
theorem q1261 : (Jvm.Cond.instanceMethod ({ cls := "java/util/ArrayList", name := "add", desc := "(Ljava/lang/Object;)Z" } : Jvm.MethodName)) ∈ lw_all := lw_g (lw_at lw_m5 177 rfl) rfl
theorem q1262 : (Jvm.Cond.selects "java/util/ArrayList" ({ cls := "java/util/ArrayList", name := "add", desc := "(Ljava/lang/Object;)Z" } : Jvm.MethodName) ({ cls := "java/util/ArrayList", name := "add", desc := "(Ljava/lang/Object;)Z" } : Jvm.MethodName)) ∈ lw_all := lw_g (lw_at lw_m5 178 rfl) rfl
theorem q1263 : (Jvm.Cond.code ({ cls := "java/util/ArrayList", name := "add", desc := "(Ljava/lang/Object;)Z" } : Jvm.MethodName) prog_49_method_25_code (2 : Nat) (Option.some Jvm.ClassFile.FieldType.boolean)) ∈ lw_all := lw_g (lw_at lw_m5 179 rfl) rfl
theorem q1264 : (Jvm.Cond.methodLink "java/util/ArrayList" (131 : Nat) ({ cls := "java/util/ArrayList", name := "add", desc := "(Ljava/lang/Object;[Ljava/lang/Object;I)V" } : Jvm.MethodName)) ∈ lw_all := lw_g (lw_at lw_m5 180 rfl) rfl
theorem q1265 : (Jvm.Cond.privateMethod ({ cls := "java/util/ArrayList", name := "add", desc := "(Ljava/lang/Object;[Ljava/lang/Object;I)V" } : Jvm.MethodName)) ∈ lw_tbl := lw_at lw_m5 181 rfl
theorem q1266 : (Jvm.Cond.instanceMethod ({ cls := "java/util/ArrayList", name := "add", desc := "(Ljava/lang/Object;[Ljava/lang/Object;I)V" } : Jvm.MethodName)) ∈ lw_all := lw_g (lw_at lw_m5 182 rfl) rfl
theorem q1267 : (Jvm.Cond.code ({ cls := "java/util/ArrayList", name := "add", desc := "(Ljava/lang/Object;[Ljava/lang/Object;I)V" } : Jvm.MethodName) prog_49_method_24_code (4 : Nat) (Option.none : Option Jvm.ClassFile.FieldType)) ∈ lw_all := lw_g (lw_at lw_m5 183 rfl) rfl
theorem q1268 : (Jvm.Cond.methodLink "java/util/ArrayList" (129 : Nat) ({ cls := "java/util/ArrayList", name := "grow", desc := "()[Ljava/lang/Object;" } : Jvm.MethodName)) ∈ lw_all := lw_g (lw_at lw_m5 184 rfl) rfl
theorem q1269 : (Jvm.Cond.privateMethod ({ cls := "java/util/ArrayList", name := "grow", desc := "()[Ljava/lang/Object;" } : Jvm.MethodName)) ∈ lw_tbl := lw_at lw_m5 185 rfl
theorem q1270 : (Jvm.Cond.instanceMethod ({ cls := "java/util/ArrayList", name := "grow", desc := "()[Ljava/lang/Object;" } : Jvm.MethodName)) ∈ lw_all := lw_g (lw_at lw_m5 186 rfl) rfl
theorem q1271 : (Jvm.Cond.code ({ cls := "java/util/ArrayList", name := "grow", desc := "()[Ljava/lang/Object;" } : Jvm.MethodName) prog_49_method_7_code (1 : Nat) (Option.some (Jvm.ClassFile.FieldType.array (Jvm.ClassFile.FieldType.object "java/lang/Object")))) ∈ lw_all := lw_g (lw_at lw_m5 187 rfl) rfl
theorem q1272 : (Jvm.Cond.methodLink "java/util/ArrayList" (69 : Nat) ({ cls := "java/util/ArrayList", name := "grow", desc := "(I)[Ljava/lang/Object;" } : Jvm.MethodName)) ∈ lw_all := lw_g (lw_at lw_m5 188 rfl) rfl
theorem q1273 : (Jvm.Cond.privateMethod ({ cls := "java/util/ArrayList", name := "grow", desc := "(I)[Ljava/lang/Object;" } : Jvm.MethodName)) ∈ lw_tbl := lw_at lw_m5 189 rfl
theorem q1274 : (Jvm.Cond.instanceMethod ({ cls := "java/util/ArrayList", name := "grow", desc := "(I)[Ljava/lang/Object;" } : Jvm.MethodName)) ∈ lw_all := lw_g (lw_at lw_m5 190 rfl) rfl
theorem q1275 : (Jvm.Cond.code ({ cls := "java/util/ArrayList", name := "grow", desc := "(I)[Ljava/lang/Object;" } : Jvm.MethodName) prog_49_method_6_code (4 : Nat) (Option.some (Jvm.ClassFile.FieldType.array (Jvm.ClassFile.FieldType.object "java/lang/Object")))) ∈ lw_all := lw_g (lw_at lw_m5 191 rfl) rfl
theorem q1276 : (Jvm.Cond.fieldLink "java/util/ArrayList" (39 : Nat) "java/util/ArrayList" "DEFAULTCAPACITY_EMPTY_ELEMENTDATA" "[Ljava/lang/Object;") ∈ lw_all := lw_g (lw_at lw_m5 192 rfl) rfl
theorem q1277 : (Jvm.Cond.laysStatic "java/util/ArrayList" "DEFAULTCAPACITY_EMPTY_ELEMENTDATA" "[Ljava/lang/Object;") ∈ lw_tbl := lw_at lw_m5 193 rfl
theorem q1278 : (Jvm.Cond.methodLink "java/util/ArrayList" (73 : Nat) ({ cls := "jdk/internal/util/ArraysSupport", name := "newLength", desc := "(III)I" } : Jvm.MethodName)) ∈ lw_all := lw_g (lw_at lw_m5 194 rfl) rfl
theorem q1279 : (Jvm.Cond.methodLink "java/util/ArrayList" (66 : Nat) ({ cls := "java/util/Arrays", name := "copyOf", desc := "([Ljava/lang/Object;I)[Ljava/lang/Object;" } : Jvm.MethodName)) ∈ lw_all := lw_g (lw_at lw_m5 195 rfl) rfl
theorem q1309 : (Jvm.Cond.selects "java/util/ArrayList" ({ cls := "java/lang/Object", name := "getClass", desc := "()Ljava/lang/Class;" } : Jvm.MethodName) ({ cls := "java/lang/Object", name := "getClass", desc := "()Ljava/lang/Class;" } : Jvm.MethodName)) ∈ lw_all := lw_g (lw_at lw_m5 225 rfl) rfl
theorem q1316 : (Jvm.Cond.methodLink "java/util/ArrayList" (79 : Nat) ({ cls := "java/lang/Math", name := "max", desc := "(II)I" } : Jvm.MethodName)) ∈ lw_all := lw_g (lw_at lw_m5 232 rfl) rfl
theorem q2711 : (Jvm.Cond.castable "java/util/ArrayList" "java/lang/Object") ∈ lw_tbl := lw_at lw_m11 187 rfl

def RJ3 : String := "java/lang/Throwable"
def TJ3 : u_T := fun k => match k with
  | 0 => ("java/lang/Throwable", "cause", "Ljava/lang/Throwable;", false)
  | 1 => ("java/lang/Throwable", "stackTrace", "[Ljava/lang/StackTraceElement;", false)
  | 2 => ("java/lang/Throwable", "suppressedExceptions", "Ljava/util/List;", false)
  | 3 => ("java/lang/Throwable", "detailMessage", "Ljava/lang/String;", false)
  | _ => ("java/lang/Throwable", "backtrace", "Ljava/lang/Object;", false)
def tyJ3 : Nat → FieldType := fun k => match k with
  | 0 => .object "java/lang/Throwable"
  | 1 => .array (.object "java/lang/StackTraceElement")
  | 2 => .object "java/util/List"
  | 3 => .object "java/lang/String"
  | _ => .object "java/lang/Object"
abbrev wsJ30 : List Cond := u_ws RJ3 TJ3 5
theorem nmJ3 : ∀ a, a < 5 → ∀ b, b < 5 → a ≠ b → (TJ3 a).2.1 ≠ (TJ3 b).2.1 := by decide +kernel
theorem tyJ3_ok : ∀ k, k < 5 → parseFieldDescriptor (TJ3 k).2.2.1 = some (tyJ3 k) := by decide +kernel
abbrev cJ3_init : ByteArray := prog_44_method_1_code
def yJ3_init : MethodName := ⟨RJ3, "<init>", "()V"⟩
def dkwJ3_init_1 : List UInt8 := [182, 0, 27, 87, 177]
abbrev dktJ3_init_1 : List UInt8 := dkwJ3_init_1 ++ []
def dkwJ3_init_0 : List UInt8 := [42, 183, 0, 1, 42, 42, 181, 0, 7, 42, 178, 0, 13, 181, 0, 17, 42, 178, 0, 20, 181, 0, 24, 42]
abbrev dktJ3_init_0 : List UInt8 := dkwJ3_init_0 ++ dktJ3_init_1
theorem dksJ3_init_0 : cJ3_init.data.toList.drop 0 = dktJ3_init_0 := by decide +kernel
theorem dksJ3_init_1 : cJ3_init.data.toList.drop 24 = dktJ3_init_1 := dk_seg dksJ3_init_0 24 rfl rfl
theorem dJ3_init_0 : decode cJ3_init 0 = .ok (.aload_n 0, 1) := dk_42 (dk_at dksJ3_init_0 0 rfl rfl)
theorem dJ3_init_1 : decode cJ3_init 1 = .ok (.invokespecial 1, 3) := dk_183 0 1 (dk_at dksJ3_init_0 1 rfl rfl)
theorem dJ3_init_4 : decode cJ3_init 4 = .ok (.aload_n 0, 1) := dk_42 (dk_at dksJ3_init_0 4 rfl rfl)
theorem dJ3_init_5 : decode cJ3_init 5 = .ok (.aload_n 0, 1) := dk_42 (dk_at dksJ3_init_0 5 rfl rfl)
theorem dJ3_init_6 : decode cJ3_init 6 = .ok (.putfield 7, 3) := dk_181 0 7 (dk_at dksJ3_init_0 6 rfl rfl)
theorem dJ3_init_9 : decode cJ3_init 9 = .ok (.aload_n 0, 1) := dk_42 (dk_at dksJ3_init_0 9 rfl rfl)
theorem dJ3_init_10 : decode cJ3_init 10 = .ok (.getstatic 13, 3) := dk_178 0 13 (dk_at dksJ3_init_0 10 rfl rfl)
theorem dJ3_init_13 : decode cJ3_init 13 = .ok (.putfield 17, 3) := dk_181 0 17 (dk_at dksJ3_init_0 13 rfl rfl)
theorem dJ3_init_16 : decode cJ3_init 16 = .ok (.aload_n 0, 1) := dk_42 (dk_at dksJ3_init_0 16 rfl rfl)
theorem dJ3_init_17 : decode cJ3_init 17 = .ok (.getstatic 20, 3) := dk_178 0 20 (dk_at dksJ3_init_0 17 rfl rfl)
theorem dJ3_init_20 : decode cJ3_init 20 = .ok (.putfield 24, 3) := dk_181 0 24 (dk_at dksJ3_init_0 20 rfl rfl)
theorem dJ3_init_23 : decode cJ3_init 23 = .ok (.aload_n 0, 1) := dk_42 (dk_at dksJ3_init_0 23 rfl rfl)
theorem dJ3_init_24 : decode cJ3_init 24 = .ok (.invokevirtual 27, 3) := dk_182 0 27 (dk_at dksJ3_init_1 0 rfl rfl)
theorem dJ3_init_27 : decode cJ3_init 27 = .ok (.pop, 1) := dk_87 (dk_at dksJ3_init_1 3 rfl rfl)
theorem dJ3_init_28 : decode cJ3_init 28 = .ok (.return_, 1) := dk_177 (dk_at dksJ3_init_1 4 rfl rfl)
abbrev cJ3_init_2 : ByteArray := prog_44_method_2_code
def yJ3_init_2 : MethodName := ⟨RJ3, "<init>", "(Ljava/lang/String;)V"⟩
def dkwJ3_init_2_1 : List UInt8 := [182, 0, 27, 87, 42, 43, 181, 0, 31, 177]
abbrev dktJ3_init_2_1 : List UInt8 := dkwJ3_init_2_1 ++ []
def dkwJ3_init_2_0 : List UInt8 := [42, 183, 0, 1, 42, 42, 181, 0, 7, 42, 178, 0, 13, 181, 0, 17, 42, 178, 0, 20, 181, 0, 24, 42]
abbrev dktJ3_init_2_0 : List UInt8 := dkwJ3_init_2_0 ++ dktJ3_init_2_1
theorem dksJ3_init_2_0 : cJ3_init_2.data.toList.drop 0 = dktJ3_init_2_0 := by decide +kernel
theorem dksJ3_init_2_1 : cJ3_init_2.data.toList.drop 24 = dktJ3_init_2_1 := dk_seg dksJ3_init_2_0 24 rfl rfl
theorem dJ3_init_2_0 : decode cJ3_init_2 0 = .ok (.aload_n 0, 1) := dk_42 (dk_at dksJ3_init_2_0 0 rfl rfl)
theorem dJ3_init_2_1 : decode cJ3_init_2 1 = .ok (.invokespecial 1, 3) := dk_183 0 1 (dk_at dksJ3_init_2_0 1 rfl rfl)
theorem dJ3_init_2_4 : decode cJ3_init_2 4 = .ok (.aload_n 0, 1) := dk_42 (dk_at dksJ3_init_2_0 4 rfl rfl)
theorem dJ3_init_2_5 : decode cJ3_init_2 5 = .ok (.aload_n 0, 1) := dk_42 (dk_at dksJ3_init_2_0 5 rfl rfl)
theorem dJ3_init_2_6 : decode cJ3_init_2 6 = .ok (.putfield 7, 3) := dk_181 0 7 (dk_at dksJ3_init_2_0 6 rfl rfl)
theorem dJ3_init_2_9 : decode cJ3_init_2 9 = .ok (.aload_n 0, 1) := dk_42 (dk_at dksJ3_init_2_0 9 rfl rfl)
theorem dJ3_init_2_10 : decode cJ3_init_2 10 = .ok (.getstatic 13, 3) := dk_178 0 13 (dk_at dksJ3_init_2_0 10 rfl rfl)
theorem dJ3_init_2_13 : decode cJ3_init_2 13 = .ok (.putfield 17, 3) := dk_181 0 17 (dk_at dksJ3_init_2_0 13 rfl rfl)
theorem dJ3_init_2_16 : decode cJ3_init_2 16 = .ok (.aload_n 0, 1) := dk_42 (dk_at dksJ3_init_2_0 16 rfl rfl)
theorem dJ3_init_2_17 : decode cJ3_init_2 17 = .ok (.getstatic 20, 3) := dk_178 0 20 (dk_at dksJ3_init_2_0 17 rfl rfl)
theorem dJ3_init_2_20 : decode cJ3_init_2 20 = .ok (.putfield 24, 3) := dk_181 0 24 (dk_at dksJ3_init_2_0 20 rfl rfl)
theorem dJ3_init_2_23 : decode cJ3_init_2 23 = .ok (.aload_n 0, 1) := dk_42 (dk_at dksJ3_init_2_0 23 rfl rfl)
theorem dJ3_init_2_24 : decode cJ3_init_2 24 = .ok (.invokevirtual 27, 3) := dk_182 0 27 (dk_at dksJ3_init_2_1 0 rfl rfl)
theorem dJ3_init_2_27 : decode cJ3_init_2 27 = .ok (.pop, 1) := dk_87 (dk_at dksJ3_init_2_1 3 rfl rfl)
theorem dJ3_init_2_28 : decode cJ3_init_2 28 = .ok (.aload_n 0, 1) := dk_42 (dk_at dksJ3_init_2_1 4 rfl rfl)
theorem dJ3_init_2_29 : decode cJ3_init_2 29 = .ok (.aload_n 1, 1) := dk_43 (dk_at dksJ3_init_2_1 5 rfl rfl)
theorem dJ3_init_2_30 : decode cJ3_init_2 30 = .ok (.putfield 31, 3) := dk_181 0 31 (dk_at dksJ3_init_2_1 6 rfl rfl)
theorem dJ3_init_2_33 : decode cJ3_init_2 33 = .ok (.return_, 1) := dk_177 (dk_at dksJ3_init_2_1 9 rfl rfl)
abbrev cJ3_init_3 : ByteArray := prog_44_method_5_code
def yJ3_init_3 : MethodName := ⟨RJ3, "<init>", "(Ljava/lang/String;Ljava/lang/Throwable;ZZ)V"⟩
def dkwJ3_init_3_2 : List UInt8 := [44, 181, 0, 7, 29, 154, 0, 8, 42, 1, 181, 0, 24, 177]
abbrev dktJ3_init_3_2 : List UInt8 := dkwJ3_init_3_2 ++ []
def dkwJ3_init_3_1 : List UInt8 := [21, 4, 153, 0, 11, 42, 182, 0, 27, 87, 167, 0, 8, 42, 1, 181, 0, 17, 42, 43, 181, 0, 31, 42]
abbrev dktJ3_init_3_1 : List UInt8 := dkwJ3_init_3_1 ++ dktJ3_init_3_2
def dkwJ3_init_3_0 : List UInt8 := [42, 183, 0, 1, 42, 42, 181, 0, 7, 42, 178, 0, 13, 181, 0, 17, 42, 178, 0, 20, 181, 0, 24]
abbrev dktJ3_init_3_0 : List UInt8 := dkwJ3_init_3_0 ++ dktJ3_init_3_1
theorem dksJ3_init_3_0 : cJ3_init_3.data.toList.drop 0 = dktJ3_init_3_0 := by decide +kernel
theorem dksJ3_init_3_1 : cJ3_init_3.data.toList.drop 23 = dktJ3_init_3_1 := dk_seg dksJ3_init_3_0 23 rfl rfl
theorem dksJ3_init_3_2 : cJ3_init_3.data.toList.drop 47 = dktJ3_init_3_2 := dk_seg dksJ3_init_3_1 24 rfl rfl
theorem dJ3_init_3_0 : decode cJ3_init_3 0 = .ok (.aload_n 0, 1) := dk_42 (dk_at dksJ3_init_3_0 0 rfl rfl)
theorem dJ3_init_3_1 : decode cJ3_init_3 1 = .ok (.invokespecial 1, 3) := dk_183 0 1 (dk_at dksJ3_init_3_0 1 rfl rfl)
theorem dJ3_init_3_4 : decode cJ3_init_3 4 = .ok (.aload_n 0, 1) := dk_42 (dk_at dksJ3_init_3_0 4 rfl rfl)
theorem dJ3_init_3_5 : decode cJ3_init_3 5 = .ok (.aload_n 0, 1) := dk_42 (dk_at dksJ3_init_3_0 5 rfl rfl)
theorem dJ3_init_3_6 : decode cJ3_init_3 6 = .ok (.putfield 7, 3) := dk_181 0 7 (dk_at dksJ3_init_3_0 6 rfl rfl)
theorem dJ3_init_3_9 : decode cJ3_init_3 9 = .ok (.aload_n 0, 1) := dk_42 (dk_at dksJ3_init_3_0 9 rfl rfl)
theorem dJ3_init_3_10 : decode cJ3_init_3 10 = .ok (.getstatic 13, 3) := dk_178 0 13 (dk_at dksJ3_init_3_0 10 rfl rfl)
theorem dJ3_init_3_13 : decode cJ3_init_3 13 = .ok (.putfield 17, 3) := dk_181 0 17 (dk_at dksJ3_init_3_0 13 rfl rfl)
theorem dJ3_init_3_16 : decode cJ3_init_3 16 = .ok (.aload_n 0, 1) := dk_42 (dk_at dksJ3_init_3_0 16 rfl rfl)
theorem dJ3_init_3_17 : decode cJ3_init_3 17 = .ok (.getstatic 20, 3) := dk_178 0 20 (dk_at dksJ3_init_3_0 17 rfl rfl)
theorem dJ3_init_3_20 : decode cJ3_init_3 20 = .ok (.putfield 24, 3) := dk_181 0 24 (dk_at dksJ3_init_3_0 20 rfl rfl)
theorem dJ3_init_3_23 : decode cJ3_init_3 23 = .ok (.iload 4, 2) := dk_21 4 (dk_at dksJ3_init_3_1 0 rfl rfl)
theorem dJ3_init_3_25 : decode cJ3_init_3 25 = .ok (.ifCond .eq 11, 3) := dk_153 0 11 (dk_at dksJ3_init_3_1 2 rfl rfl)
theorem dJ3_init_3_28 : decode cJ3_init_3 28 = .ok (.aload_n 0, 1) := dk_42 (dk_at dksJ3_init_3_1 5 rfl rfl)
theorem dJ3_init_3_29 : decode cJ3_init_3 29 = .ok (.invokevirtual 27, 3) := dk_182 0 27 (dk_at dksJ3_init_3_1 6 rfl rfl)
theorem dJ3_init_3_32 : decode cJ3_init_3 32 = .ok (.pop, 1) := dk_87 (dk_at dksJ3_init_3_1 9 rfl rfl)
theorem dJ3_init_3_33 : decode cJ3_init_3 33 = .ok (.goto 8, 3) := dk_167 0 8 (dk_at dksJ3_init_3_1 10 rfl rfl)
theorem dJ3_init_3_36 : decode cJ3_init_3 36 = .ok (.aload_n 0, 1) := dk_42 (dk_at dksJ3_init_3_1 13 rfl rfl)
theorem dJ3_init_3_37 : decode cJ3_init_3 37 = .ok (.aconst_null, 1) := dk_1 (dk_at dksJ3_init_3_1 14 rfl rfl)
theorem dJ3_init_3_38 : decode cJ3_init_3 38 = .ok (.putfield 17, 3) := dk_181 0 17 (dk_at dksJ3_init_3_1 15 rfl rfl)
theorem dJ3_init_3_41 : decode cJ3_init_3 41 = .ok (.aload_n 0, 1) := dk_42 (dk_at dksJ3_init_3_1 18 rfl rfl)
theorem dJ3_init_3_42 : decode cJ3_init_3 42 = .ok (.aload_n 1, 1) := dk_43 (dk_at dksJ3_init_3_1 19 rfl rfl)
theorem dJ3_init_3_43 : decode cJ3_init_3 43 = .ok (.putfield 31, 3) := dk_181 0 31 (dk_at dksJ3_init_3_1 20 rfl rfl)
theorem dJ3_init_3_46 : decode cJ3_init_3 46 = .ok (.aload_n 0, 1) := dk_42 (dk_at dksJ3_init_3_1 23 rfl rfl)
theorem dJ3_init_3_47 : decode cJ3_init_3 47 = .ok (.aload_n 2, 1) := dk_44 (dk_at dksJ3_init_3_2 0 rfl rfl)
theorem dJ3_init_3_48 : decode cJ3_init_3 48 = .ok (.putfield 7, 3) := dk_181 0 7 (dk_at dksJ3_init_3_2 1 rfl rfl)
theorem dJ3_init_3_51 : decode cJ3_init_3 51 = .ok (.iload_n 3, 1) := dk_29 (dk_at dksJ3_init_3_2 4 rfl rfl)
theorem dJ3_init_3_52 : decode cJ3_init_3 52 = .ok (.ifCond .ne 8, 3) := dk_154 0 8 (dk_at dksJ3_init_3_2 5 rfl rfl)
theorem dJ3_init_3_55 : decode cJ3_init_3 55 = .ok (.aload_n 0, 1) := dk_42 (dk_at dksJ3_init_3_2 8 rfl rfl)
theorem dJ3_init_3_56 : decode cJ3_init_3 56 = .ok (.aconst_null, 1) := dk_1 (dk_at dksJ3_init_3_2 9 rfl rfl)
theorem dJ3_init_3_57 : decode cJ3_init_3 57 = .ok (.putfield 24, 3) := dk_181 0 24 (dk_at dksJ3_init_3_2 10 rfl rfl)
theorem dJ3_init_3_60 : decode cJ3_init_3 60 = .ok (.return_, 1) := dk_177 (dk_at dksJ3_init_3_2 13 rfl rfl)
theorem q130 : (Jvm.Cond.initialized "java/lang/Throwable") ∈ lw_all := lw_g (lw_at lw_m1 6 rfl) rfl
theorem q205 : (Jvm.Cond.declares ({ cls := "java/lang/Throwable", name := "<init>", desc := "()V" } : Jvm.MethodName)) ∈ lw_tbl := lw_at lw_m1 81 rfl
theorem q206 : (Jvm.Cond.declares ({ cls := "java/lang/Throwable", name := "<init>", desc := "(Ljava/lang/String;)V" } : Jvm.MethodName)) ∈ lw_tbl := lw_at lw_m1 82 rfl
theorem q210 : (Jvm.Cond.lays "java/lang/Throwable" "java/lang/Throwable" "cause" "Ljava/lang/Throwable;") ∈ lw_all := lw_g (lw_at lw_m1 86 rfl) rfl
theorem q212 : (Jvm.Cond.lays "java/lang/Throwable" "java/lang/Throwable" "stackTrace" "[Ljava/lang/StackTraceElement;") ∈ lw_all := lw_g (lw_at lw_m1 88 rfl) rfl
theorem q214 : (Jvm.Cond.lays "java/lang/Throwable" "java/lang/Throwable" "suppressedExceptions" "Ljava/util/List;") ∈ lw_all := lw_g (lw_at lw_m1 90 rfl) rfl
theorem q216 : (Jvm.Cond.lays "java/lang/Throwable" "java/lang/Throwable" "detailMessage" "Ljava/lang/String;") ∈ lw_all := lw_g (lw_at lw_m1 92 rfl) rfl
theorem q218 : (Jvm.Cond.lays "java/lang/Throwable" "java/lang/Throwable" "backtrace" "Ljava/lang/Object;") ∈ lw_all := lw_g (lw_at lw_m1 94 rfl) rfl
theorem q219 : (Jvm.Cond.fieldLink "java/lang/Throwable" (198 : Nat) "java/lang/Throwable" "backtrace" "Ljava/lang/Object;") ∈ lw_all := lw_g (lw_at lw_m1 95 rfl) rfl
theorem q220 : (Jvm.Cond.superclass "java/lang/Throwable" "java/lang/Object") ∈ lw_all := lw_g (lw_at lw_m1 96 rfl) rfl
theorem q221 : (Jvm.Cond.instanceMethod ({ cls := "java/lang/Throwable", name := "<init>", desc := "()V" } : Jvm.MethodName)) ∈ lw_all := lw_g (lw_at lw_m1 97 rfl) rfl
theorem q222 : (Jvm.Cond.code ({ cls := "java/lang/Throwable", name := "<init>", desc := "()V" } : Jvm.MethodName) prog_44_method_1_code (1 : Nat) (Option.none : Option Jvm.ClassFile.FieldType)) ∈ lw_all := lw_g (lw_at lw_m1 98 rfl) rfl
theorem q223 : (Jvm.Cond.methodLink "java/lang/Throwable" (1 : Nat) ({ cls := "java/lang/Object", name := "<init>", desc := "()V" } : Jvm.MethodName)) ∈ lw_all := lw_g (lw_at lw_m1 99 rfl) rfl
theorem q224 : (Jvm.Cond.fieldLink "java/lang/Throwable" (13 : Nat) "java/lang/Throwable" "UNASSIGNED_STACK" "[Ljava/lang/StackTraceElement;") ∈ lw_all := lw_g (lw_at lw_m1 100 rfl) rfl
theorem q225 : (Jvm.Cond.laysStatic "java/lang/Throwable" "UNASSIGNED_STACK" "[Ljava/lang/StackTraceElement;") ∈ lw_tbl := lw_at lw_m1 101 rfl
theorem q226 : (Jvm.Cond.fieldLink "java/lang/Throwable" (20 : Nat) "java/lang/Throwable" "SUPPRESSED_SENTINEL" "Ljava/util/List;") ∈ lw_all := lw_g (lw_at lw_m1 102 rfl) rfl
theorem q227 : (Jvm.Cond.laysStatic "java/lang/Throwable" "SUPPRESSED_SENTINEL" "Ljava/util/List;") ∈ lw_tbl := lw_at lw_m1 103 rfl
theorem q228 : (Jvm.Cond.methodLink "java/lang/Throwable" (27 : Nat) ({ cls := "java/lang/Throwable", name := "fillInStackTrace", desc := "()Ljava/lang/Throwable;" } : Jvm.MethodName)) ∈ lw_all := lw_g (lw_at lw_m1 104 rfl) rfl
theorem q229 : (Jvm.Cond.instanceMethod ({ cls := "java/lang/Throwable", name := "fillInStackTrace", desc := "()Ljava/lang/Throwable;" } : Jvm.MethodName)) ∈ lw_all := lw_g (lw_at lw_m1 105 rfl) rfl
theorem q230 : (Jvm.Cond.sameMethod "java/lang/Throwable" "java/lang/Throwable" "fillInStackTrace" "()Ljava/lang/Throwable;") ∈ lw_all := lw_g (lw_at lw_m1 106 rfl) rfl
theorem q235 : (Jvm.Cond.codeSync ({ cls := "java/lang/Throwable", name := "fillInStackTrace", desc := "()Ljava/lang/Throwable;" } : Jvm.MethodName) prog_44_method_18_code (1 : Nat) (Option.some (Jvm.ClassFile.FieldType.object "java/lang/Throwable"))) ∈ lw_all := lw_g (lw_at lw_m1 111 rfl) rfl
theorem q236 : (Jvm.Cond.methodLink "java/lang/Throwable" (202 : Nat) ({ cls := "java/lang/Throwable", name := "fillInStackTrace", desc := "(I)Ljava/lang/Throwable;" } : Jvm.MethodName)) ∈ lw_all := lw_g (lw_at lw_m1 112 rfl) rfl
theorem q237 : (Jvm.Cond.privateMethod ({ cls := "java/lang/Throwable", name := "fillInStackTrace", desc := "(I)Ljava/lang/Throwable;" } : Jvm.MethodName)) ∈ lw_tbl := lw_at lw_m1 113 rfl
theorem q238 : (Jvm.Cond.instanceMethod ({ cls := "java/lang/Throwable", name := "fillInStackTrace", desc := "(I)Ljava/lang/Throwable;" } : Jvm.MethodName)) ∈ lw_all := lw_g (lw_at lw_m1 114 rfl) rfl
theorem q239 : (Jvm.Cond.instantiable "java/lang/Throwable" (6 : Nat)) ∈ lw_all := lw_g (lw_at lw_m1 115 rfl) rfl
theorem q240 : (Jvm.Cond.native ({ cls := "java/lang/Throwable", name := "fillInStackTrace", desc := "(I)Ljava/lang/Throwable;" } : Jvm.MethodName)) ∈ lw_all := lw_g (lw_at lw_m1 116 rfl) rfl
theorem q472 : (Jvm.Cond.instanceMethod ({ cls := "java/lang/Throwable", name := "<init>", desc := "(Ljava/lang/String;)V" } : Jvm.MethodName)) ∈ lw_all := lw_g (lw_at lw_m2 108 rfl) rfl
theorem q473 : (Jvm.Cond.code ({ cls := "java/lang/Throwable", name := "<init>", desc := "(Ljava/lang/String;)V" } : Jvm.MethodName) prog_44_method_2_code (2 : Nat) (Option.none : Option Jvm.ClassFile.FieldType)) ∈ lw_all := lw_g (lw_at lw_m2 109 rfl) rfl
theorem q474 : (Jvm.Cond.fieldLink "java/lang/Throwable" (198 : Nat) "java/lang/Throwable" "backtrace" "Ljava/lang/Object;") ∈ lw_all := lw_g (lw_at lw_m2 110 rfl) rfl
theorem q475 : (Jvm.Cond.fieldLink "java/lang/Throwable" (31 : Nat) "java/lang/Throwable" "detailMessage" "Ljava/lang/String;") ∈ lw_all := lw_g (lw_at lw_m2 111 rfl) rfl
theorem q476 : (Jvm.Cond.fieldLink "java/lang/Throwable" (7 : Nat) "java/lang/Throwable" "cause" "Ljava/lang/Throwable;") ∈ lw_all := lw_g (lw_at lw_m2 112 rfl) rfl
theorem q477 : (Jvm.Cond.fieldLink "java/lang/Throwable" (17 : Nat) "java/lang/Throwable" "stackTrace" "[Ljava/lang/StackTraceElement;") ∈ lw_all := lw_g (lw_at lw_m2 113 rfl) rfl
theorem q478 : (Jvm.Cond.fieldLink "java/lang/Throwable" (24 : Nat) "java/lang/Throwable" "suppressedExceptions" "Ljava/util/List;") ∈ lw_all := lw_g (lw_at lw_m2 114 rfl) rfl
theorem q479 : (Jvm.Cond.soleField "java/lang/Throwable" "backtrace") ∈ lw_all := lw_g (lw_at lw_m2 115 rfl) rfl
theorem q480 : (Jvm.Cond.soleField "java/lang/Throwable" "detailMessage") ∈ lw_all := lw_g (lw_at lw_m2 116 rfl) rfl
theorem q481 : (Jvm.Cond.soleField "java/lang/Throwable" "cause") ∈ lw_all := lw_g (lw_at lw_m2 117 rfl) rfl
theorem q482 : (Jvm.Cond.soleField "java/lang/Throwable" "stackTrace") ∈ lw_all := lw_g (lw_at lw_m2 118 rfl) rfl
theorem q484 : (Jvm.Cond.soleField "java/lang/Throwable" "depth") ∈ lw_all := lw_g (lw_at lw_m2 120 rfl) rfl
theorem q485 : (Jvm.Cond.soleField "java/lang/Throwable" "suppressedExceptions") ∈ lw_all := lw_g (lw_at lw_m2 121 rfl) rfl
theorem q1174 : (Jvm.Cond.instanceMethod ({ cls := "java/lang/Throwable", name := "<init>", desc := "(Ljava/lang/String;Ljava/lang/Throwable;ZZ)V" } : Jvm.MethodName)) ∈ lw_all := lw_g (lw_at lw_m5 90 rfl) rfl
theorem q1175 : (Jvm.Cond.code ({ cls := "java/lang/Throwable", name := "<init>", desc := "(Ljava/lang/String;Ljava/lang/Throwable;ZZ)V" } : Jvm.MethodName) prog_44_method_5_code (5 : Nat) (Option.none : Option Jvm.ClassFile.FieldType)) ∈ lw_all := lw_g (lw_at lw_m5 91 rfl) rfl
theorem q2689 : (Jvm.Cond.sameMethod "java/lang/Throwable" "java/lang/Throwable" "fillInStackTrace" "(I)Ljava/lang/Throwable;") ∈ lw_all := lw_g (lw_at lw_m11 165 rfl) rfl
theorem q2733 : (Jvm.Cond.castable "java/lang/Throwable" "java/lang/Object") ∈ lw_tbl := lw_at lw_m11 209 rfl
theorem in_J3 : ∀ w ∈ wsJ30, w ∈ lw_all := lw_in wsJ30 [210, 212, 214, 216, 218] (by decide +kernel) (by decide +kernel)

def RJ4 : String := "java/lang/Exception"
abbrev cJ4_init : ByteArray := prog_27_method_2_code
def yJ4_init : MethodName := ⟨RJ4, "<init>", "(Ljava/lang/String;)V"⟩
def dkwJ4_init_0 : List UInt8 := [42, 43, 183, 0, 7, 177]
abbrev dktJ4_init_0 : List UInt8 := dkwJ4_init_0 ++ []
theorem dksJ4_init_0 : cJ4_init.data.toList.drop 0 = dktJ4_init_0 := by decide +kernel
theorem dJ4_init_0 : decode cJ4_init 0 = .ok (.aload_n 0, 1) := dk_42 (dk_at dksJ4_init_0 0 rfl rfl)
theorem dJ4_init_1 : decode cJ4_init 1 = .ok (.aload_n 1, 1) := dk_43 (dk_at dksJ4_init_0 1 rfl rfl)
theorem dJ4_init_2 : decode cJ4_init 2 = .ok (.invokespecial 7, 3) := dk_183 0 7 (dk_at dksJ4_init_0 2 rfl rfl)
theorem dJ4_init_5 : decode cJ4_init 5 = .ok (.return_, 1) := dk_177 (dk_at dksJ4_init_0 5 rfl rfl)
abbrev cJ4_init_2 : ByteArray := prog_27_method_1_code
def yJ4_init_2 : MethodName := ⟨RJ4, "<init>", "()V"⟩
theorem dJ4_init_2_0 : decode cJ4_init_2 0 = .ok (.aload_n 0, 1) := by decide +kernel
theorem dJ4_init_2_1 : decode cJ4_init_2 1 = .ok (.invokespecial 1, 3) := by decide +kernel
theorem dJ4_init_2_4 : decode cJ4_init_2 4 = .ok (.return_, 1) := by decide +kernel
abbrev cJ4_init_3 : ByteArray := prog_27_method_5_code
def yJ4_init_3 : MethodName := ⟨RJ4, "<init>", "(Ljava/lang/String;Ljava/lang/Throwable;ZZ)V"⟩
def dkwJ4_init_3_0 : List UInt8 := [42, 43, 44, 29, 21, 4, 183, 0, 16, 177]
abbrev dktJ4_init_3_0 : List UInt8 := dkwJ4_init_3_0 ++ []
theorem dksJ4_init_3_0 : cJ4_init_3.data.toList.drop 0 = dktJ4_init_3_0 := by decide +kernel
theorem dJ4_init_3_0 : decode cJ4_init_3 0 = .ok (.aload_n 0, 1) := dk_42 (dk_at dksJ4_init_3_0 0 rfl rfl)
theorem dJ4_init_3_1 : decode cJ4_init_3 1 = .ok (.aload_n 1, 1) := dk_43 (dk_at dksJ4_init_3_0 1 rfl rfl)
theorem dJ4_init_3_2 : decode cJ4_init_3 2 = .ok (.aload_n 2, 1) := dk_44 (dk_at dksJ4_init_3_0 2 rfl rfl)
theorem dJ4_init_3_3 : decode cJ4_init_3 3 = .ok (.iload_n 3, 1) := dk_29 (dk_at dksJ4_init_3_0 3 rfl rfl)
theorem dJ4_init_3_4 : decode cJ4_init_3 4 = .ok (.iload 4, 2) := dk_21 4 (dk_at dksJ4_init_3_0 4 rfl rfl)
theorem dJ4_init_3_6 : decode cJ4_init_3 6 = .ok (.invokespecial 16, 3) := dk_183 0 16 (dk_at dksJ4_init_3_0 6 rfl rfl)
theorem dJ4_init_3_9 : decode cJ4_init_3 9 = .ok (.return_, 1) := dk_177 (dk_at dksJ4_init_3_0 9 rfl rfl)
theorem q131 : (Jvm.Cond.initialized "java/lang/Exception") ∈ lw_all := lw_g (lw_at lw_m1 7 rfl) rfl
theorem q203 : (Jvm.Cond.declares ({ cls := "java/lang/Exception", name := "<init>", desc := "()V" } : Jvm.MethodName)) ∈ lw_tbl := lw_at lw_m1 79 rfl
theorem q204 : (Jvm.Cond.declares ({ cls := "java/lang/Exception", name := "<init>", desc := "(Ljava/lang/String;)V" } : Jvm.MethodName)) ∈ lw_tbl := lw_at lw_m1 80 rfl
theorem q469 : (Jvm.Cond.instanceMethod ({ cls := "java/lang/Exception", name := "<init>", desc := "(Ljava/lang/String;)V" } : Jvm.MethodName)) ∈ lw_all := lw_g (lw_at lw_m2 105 rfl) rfl
theorem q470 : (Jvm.Cond.code ({ cls := "java/lang/Exception", name := "<init>", desc := "(Ljava/lang/String;)V" } : Jvm.MethodName) prog_27_method_2_code (2 : Nat) (Option.none : Option Jvm.ClassFile.FieldType)) ∈ lw_all := lw_g (lw_at lw_m2 106 rfl) rfl
theorem q471 : (Jvm.Cond.methodLink "java/lang/Exception" (7 : Nat) ({ cls := "java/lang/Throwable", name := "<init>", desc := "(Ljava/lang/String;)V" } : Jvm.MethodName)) ∈ lw_all := lw_g (lw_at lw_m2 107 rfl) rfl
theorem q1011 : (Jvm.Cond.instanceMethod ({ cls := "java/lang/Exception", name := "<init>", desc := "()V" } : Jvm.MethodName)) ∈ lw_all := lw_g (lw_at lw_m4 167 rfl) rfl
theorem q1012 : (Jvm.Cond.code ({ cls := "java/lang/Exception", name := "<init>", desc := "()V" } : Jvm.MethodName) prog_27_method_1_code (1 : Nat) (Option.none : Option Jvm.ClassFile.FieldType)) ∈ lw_all := lw_g (lw_at lw_m4 168 rfl) rfl
theorem q1013 : (Jvm.Cond.methodLink "java/lang/Exception" (1 : Nat) ({ cls := "java/lang/Throwable", name := "<init>", desc := "()V" } : Jvm.MethodName)) ∈ lw_all := lw_g (lw_at lw_m4 169 rfl) rfl
theorem q1171 : (Jvm.Cond.instanceMethod ({ cls := "java/lang/Exception", name := "<init>", desc := "(Ljava/lang/String;Ljava/lang/Throwable;ZZ)V" } : Jvm.MethodName)) ∈ lw_all := lw_g (lw_at lw_m5 87 rfl) rfl
theorem q1172 : (Jvm.Cond.code ({ cls := "java/lang/Exception", name := "<init>", desc := "(Ljava/lang/String;Ljava/lang/Throwable;ZZ)V" } : Jvm.MethodName) prog_27_method_5_code (5 : Nat) (Option.none : Option Jvm.ClassFile.FieldType)) ∈ lw_all := lw_g (lw_at lw_m5 88 rfl) rfl
theorem q1173 : (Jvm.Cond.methodLink "java/lang/Exception" (16 : Nat) ({ cls := "java/lang/Throwable", name := "<init>", desc := "(Ljava/lang/String;Ljava/lang/Throwable;ZZ)V" } : Jvm.MethodName)) ∈ lw_all := lw_g (lw_at lw_m5 89 rfl) rfl

def RJ5 : String := "java/lang/RuntimeException"
abbrev cJ5_init : ByteArray := prog_37_method_2_code
def yJ5_init : MethodName := ⟨RJ5, "<init>", "(Ljava/lang/String;)V"⟩
def dkwJ5_init_0 : List UInt8 := [42, 43, 183, 0, 7, 177]
abbrev dktJ5_init_0 : List UInt8 := dkwJ5_init_0 ++ []
theorem dksJ5_init_0 : cJ5_init.data.toList.drop 0 = dktJ5_init_0 := by decide +kernel
theorem dJ5_init_0 : decode cJ5_init 0 = .ok (.aload_n 0, 1) := dk_42 (dk_at dksJ5_init_0 0 rfl rfl)
theorem dJ5_init_1 : decode cJ5_init 1 = .ok (.aload_n 1, 1) := dk_43 (dk_at dksJ5_init_0 1 rfl rfl)
theorem dJ5_init_2 : decode cJ5_init 2 = .ok (.invokespecial 7, 3) := dk_183 0 7 (dk_at dksJ5_init_0 2 rfl rfl)
theorem dJ5_init_5 : decode cJ5_init 5 = .ok (.return_, 1) := dk_177 (dk_at dksJ5_init_0 5 rfl rfl)
abbrev cJ5_init_2 : ByteArray := prog_37_method_1_code
def yJ5_init_2 : MethodName := ⟨RJ5, "<init>", "()V"⟩
theorem dJ5_init_2_0 : decode cJ5_init_2 0 = .ok (.aload_n 0, 1) := by decide +kernel
theorem dJ5_init_2_1 : decode cJ5_init_2 1 = .ok (.invokespecial 1, 3) := by decide +kernel
theorem dJ5_init_2_4 : decode cJ5_init_2 4 = .ok (.return_, 1) := by decide +kernel
theorem q132 : (Jvm.Cond.initialized "java/lang/RuntimeException") ∈ lw_all := lw_g (lw_at lw_m1 8 rfl) rfl
theorem q201 : (Jvm.Cond.declares ({ cls := "java/lang/RuntimeException", name := "<init>", desc := "()V" } : Jvm.MethodName)) ∈ lw_tbl := lw_at lw_m1 77 rfl
theorem q202 : (Jvm.Cond.declares ({ cls := "java/lang/RuntimeException", name := "<init>", desc := "(Ljava/lang/String;)V" } : Jvm.MethodName)) ∈ lw_tbl := lw_at lw_m1 78 rfl
theorem q466 : (Jvm.Cond.instanceMethod ({ cls := "java/lang/RuntimeException", name := "<init>", desc := "(Ljava/lang/String;)V" } : Jvm.MethodName)) ∈ lw_all := lw_g (lw_at lw_m2 102 rfl) rfl
theorem q467 : (Jvm.Cond.code ({ cls := "java/lang/RuntimeException", name := "<init>", desc := "(Ljava/lang/String;)V" } : Jvm.MethodName) prog_37_method_2_code (2 : Nat) (Option.none : Option Jvm.ClassFile.FieldType)) ∈ lw_all := lw_g (lw_at lw_m2 103 rfl) rfl
theorem q468 : (Jvm.Cond.methodLink "java/lang/RuntimeException" (7 : Nat) ({ cls := "java/lang/Exception", name := "<init>", desc := "(Ljava/lang/String;)V" } : Jvm.MethodName)) ∈ lw_all := lw_g (lw_at lw_m2 104 rfl) rfl
theorem q1008 : (Jvm.Cond.instanceMethod ({ cls := "java/lang/RuntimeException", name := "<init>", desc := "()V" } : Jvm.MethodName)) ∈ lw_all := lw_g (lw_at lw_m4 164 rfl) rfl
theorem q1009 : (Jvm.Cond.code ({ cls := "java/lang/RuntimeException", name := "<init>", desc := "()V" } : Jvm.MethodName) prog_37_method_1_code (1 : Nat) (Option.none : Option Jvm.ClassFile.FieldType)) ∈ lw_all := lw_g (lw_at lw_m4 165 rfl) rfl
theorem q1010 : (Jvm.Cond.methodLink "java/lang/RuntimeException" (1 : Nat) ({ cls := "java/lang/Exception", name := "<init>", desc := "()V" } : Jvm.MethodName)) ∈ lw_all := lw_g (lw_at lw_m4 166 rfl) rfl

def RJ6 : String := "java/lang/IllegalArgumentException"
def TJ6 : u_T := fun k => match k with
  | 0 => ("java/lang/Throwable", "cause", "Ljava/lang/Throwable;", false)
  | 1 => ("java/lang/Throwable", "stackTrace", "[Ljava/lang/StackTraceElement;", false)
  | 2 => ("java/lang/Throwable", "suppressedExceptions", "Ljava/util/List;", false)
  | 3 => ("java/lang/Throwable", "detailMessage", "Ljava/lang/String;", false)
  | 4 => ("java/lang/Throwable", "backtrace", "Ljava/lang/Object;", false)
  | _ => ("java/lang/Throwable", "depth", "I", false)
def tyJ6 : Nat → FieldType := fun k => match k with
  | 0 => .object "java/lang/Throwable"
  | 1 => .array (.object "java/lang/StackTraceElement")
  | 2 => .object "java/util/List"
  | 3 => .object "java/lang/String"
  | 4 => .object "java/lang/Object"
  | _ => .int
abbrev wsJ60 : List Cond := u_ws RJ6 TJ6 6
theorem nmJ6 : ∀ a, a < 6 → ∀ b, b < 6 → a ≠ b → (TJ6 a).2.1 ≠ (TJ6 b).2.1 := by decide +kernel
theorem tyJ6_ok : ∀ k, k < 6 → parseFieldDescriptor (TJ6 k).2.2.1 = some (tyJ6 k) := by decide +kernel
abbrev cJ6_init : ByteArray := prog_28_method_2_code
def yJ6_init : MethodName := ⟨RJ6, "<init>", "(Ljava/lang/String;)V"⟩
def dkwJ6_init_0 : List UInt8 := [42, 43, 183, 0, 7, 177]
abbrev dktJ6_init_0 : List UInt8 := dkwJ6_init_0 ++ []
theorem dksJ6_init_0 : cJ6_init.data.toList.drop 0 = dktJ6_init_0 := by decide +kernel
theorem dJ6_init_0 : decode cJ6_init 0 = .ok (.aload_n 0, 1) := dk_42 (dk_at dksJ6_init_0 0 rfl rfl)
theorem dJ6_init_1 : decode cJ6_init 1 = .ok (.aload_n 1, 1) := dk_43 (dk_at dksJ6_init_0 1 rfl rfl)
theorem dJ6_init_2 : decode cJ6_init 2 = .ok (.invokespecial 7, 3) := dk_183 0 7 (dk_at dksJ6_init_0 2 rfl rfl)
theorem dJ6_init_5 : decode cJ6_init 5 = .ok (.return_, 1) := dk_177 (dk_at dksJ6_init_0 5 rfl rfl)
abbrev cJ6_init_2 : ByteArray := prog_28_method_1_code
def yJ6_init_2 : MethodName := ⟨RJ6, "<init>", "()V"⟩
theorem dJ6_init_2_0 : decode cJ6_init_2 0 = .ok (.aload_n 0, 1) := by decide +kernel
theorem dJ6_init_2_1 : decode cJ6_init_2 1 = .ok (.invokespecial 1, 3) := by decide +kernel
theorem dJ6_init_2_4 : decode cJ6_init_2 4 = .ok (.return_, 1) := by decide +kernel
theorem q133 : (Jvm.Cond.initialized "java/lang/IllegalArgumentException") ∈ lw_all := lw_g (lw_at lw_m1 9 rfl) rfl
theorem q199 : (Jvm.Cond.instantiable "java/lang/IllegalArgumentException" (6 : Nat)) ∈ lw_all := lw_g (lw_at lw_m1 75 rfl) rfl
theorem q200 : (Jvm.Cond.castable "java/lang/IllegalArgumentException" "java/lang/IllegalArgumentException") ∈ lw_tbl := lw_at lw_m1 76 rfl
theorem q207 : (Jvm.Cond.selects "java/lang/IllegalArgumentException" ({ cls := "java/lang/Throwable", name := "fillInStackTrace", desc := "(I)Ljava/lang/Throwable;" } : Jvm.MethodName) ({ cls := "java/lang/Throwable", name := "fillInStackTrace", desc := "(I)Ljava/lang/Throwable;" } : Jvm.MethodName)) ∈ lw_all := lw_g (lw_at lw_m1 83 rfl) rfl
theorem q208 : (Jvm.Cond.selects "java/lang/IllegalArgumentException" ({ cls := "java/lang/Throwable", name := "fillInStackTrace", desc := "()Ljava/lang/Throwable;" } : Jvm.MethodName) ({ cls := "java/lang/Throwable", name := "fillInStackTrace", desc := "()Ljava/lang/Throwable;" } : Jvm.MethodName)) ∈ lw_all := lw_g (lw_at lw_m1 84 rfl) rfl
theorem q209 : (Jvm.Cond.lays "java/lang/IllegalArgumentException" "java/lang/Throwable" "cause" "Ljava/lang/Throwable;") ∈ lw_all := lw_g (lw_at lw_m1 85 rfl) rfl
theorem q211 : (Jvm.Cond.lays "java/lang/IllegalArgumentException" "java/lang/Throwable" "stackTrace" "[Ljava/lang/StackTraceElement;") ∈ lw_all := lw_g (lw_at lw_m1 87 rfl) rfl
theorem q213 : (Jvm.Cond.lays "java/lang/IllegalArgumentException" "java/lang/Throwable" "suppressedExceptions" "Ljava/util/List;") ∈ lw_all := lw_g (lw_at lw_m1 89 rfl) rfl
theorem q215 : (Jvm.Cond.lays "java/lang/IllegalArgumentException" "java/lang/Throwable" "detailMessage" "Ljava/lang/String;") ∈ lw_all := lw_g (lw_at lw_m1 91 rfl) rfl
theorem q217 : (Jvm.Cond.lays "java/lang/IllegalArgumentException" "java/lang/Throwable" "backtrace" "Ljava/lang/Object;") ∈ lw_all := lw_g (lw_at lw_m1 93 rfl) rfl
theorem q463 : (Jvm.Cond.instanceMethod ({ cls := "java/lang/IllegalArgumentException", name := "<init>", desc := "(Ljava/lang/String;)V" } : Jvm.MethodName)) ∈ lw_all := lw_g (lw_at lw_m2 99 rfl) rfl
theorem q464 : (Jvm.Cond.code ({ cls := "java/lang/IllegalArgumentException", name := "<init>", desc := "(Ljava/lang/String;)V" } : Jvm.MethodName) prog_28_method_2_code (2 : Nat) (Option.none : Option Jvm.ClassFile.FieldType)) ∈ lw_all := lw_g (lw_at lw_m2 100 rfl) rfl
theorem q465 : (Jvm.Cond.methodLink "java/lang/IllegalArgumentException" (7 : Nat) ({ cls := "java/lang/RuntimeException", name := "<init>", desc := "(Ljava/lang/String;)V" } : Jvm.MethodName)) ∈ lw_all := lw_g (lw_at lw_m2 101 rfl) rfl
theorem q483 : (Jvm.Cond.lays "java/lang/IllegalArgumentException" "java/lang/Throwable" "depth" "I") ∈ lw_all := lw_g (lw_at lw_m2 119 rfl) rfl
theorem q486 : (Jvm.Cond.superclass "java/lang/IllegalArgumentException" "java/lang/RuntimeException") ∈ lw_all := lw_g (lw_at lw_m2 122 rfl) rfl
theorem q1005 : (Jvm.Cond.instanceMethod ({ cls := "java/lang/IllegalArgumentException", name := "<init>", desc := "()V" } : Jvm.MethodName)) ∈ lw_all := lw_g (lw_at lw_m4 161 rfl) rfl
theorem q1006 : (Jvm.Cond.code ({ cls := "java/lang/IllegalArgumentException", name := "<init>", desc := "()V" } : Jvm.MethodName) prog_28_method_1_code (1 : Nat) (Option.none : Option Jvm.ClassFile.FieldType)) ∈ lw_all := lw_g (lw_at lw_m4 162 rfl) rfl
theorem q1007 : (Jvm.Cond.methodLink "java/lang/IllegalArgumentException" (1 : Nat) ({ cls := "java/lang/RuntimeException", name := "<init>", desc := "()V" } : Jvm.MethodName)) ∈ lw_all := lw_g (lw_at lw_m4 163 rfl) rfl
theorem q1302 : (Jvm.Cond.selects "java/lang/IllegalArgumentException" ({ cls := "java/lang/Object", name := "getClass", desc := "()Ljava/lang/Class;" } : Jvm.MethodName) ({ cls := "java/lang/Object", name := "getClass", desc := "()Ljava/lang/Class;" } : Jvm.MethodName)) ∈ lw_all := lw_g (lw_at lw_m5 218 rfl) rfl
theorem q2712 : (Jvm.Cond.castable "java/lang/IllegalArgumentException" "java/lang/Object") ∈ lw_tbl := lw_at lw_m11 188 rfl
theorem in_J6 : ∀ w ∈ wsJ60, w ∈ lw_all := lw_in wsJ60 [209, 211, 213, 215, 217, 483] (by decide +kernel) (by decide +kernel)

def RJ7 : String := "java/lang/AbstractStringBuilder"
abbrev cJ7_init : ByteArray := prog_21_method_2_code
def yJ7_init : MethodName := ⟨RJ7, "<init>", "(I)V"⟩
def dkwJ7_init_1 : List UInt8 := [167, 0, 16, 42, 27, 184, 0, 26, 181, 0, 15, 42, 4, 181, 0, 22, 177]
abbrev dktJ7_init_1 : List UInt8 := dkwJ7_init_1 ++ []
def dkwJ7_init_0 : List UInt8 := [42, 183, 0, 3, 178, 0, 18, 153, 0, 18, 42, 27, 188, 8, 181, 0, 15, 42, 3, 181, 0, 22]
abbrev dktJ7_init_0 : List UInt8 := dkwJ7_init_0 ++ dktJ7_init_1
theorem dksJ7_init_0 : cJ7_init.data.toList.drop 0 = dktJ7_init_0 := by decide +kernel
theorem dksJ7_init_1 : cJ7_init.data.toList.drop 22 = dktJ7_init_1 := dk_seg dksJ7_init_0 22 rfl rfl
theorem dJ7_init_0 : decode cJ7_init 0 = .ok (.aload_n 0, 1) := dk_42 (dk_at dksJ7_init_0 0 rfl rfl)
theorem dJ7_init_1 : decode cJ7_init 1 = .ok (.invokespecial 3, 3) := dk_183 0 3 (dk_at dksJ7_init_0 1 rfl rfl)
theorem dJ7_init_4 : decode cJ7_init 4 = .ok (.getstatic 18, 3) := dk_178 0 18 (dk_at dksJ7_init_0 4 rfl rfl)
theorem dJ7_init_7 : decode cJ7_init 7 = .ok (.ifCond .eq 18, 3) := dk_153 0 18 (dk_at dksJ7_init_0 7 rfl rfl)
theorem dJ7_init_10 : decode cJ7_init 10 = .ok (.aload_n 0, 1) := dk_42 (dk_at dksJ7_init_0 10 rfl rfl)
theorem dJ7_init_11 : decode cJ7_init 11 = .ok (.iload_n 1, 1) := dk_27 (dk_at dksJ7_init_0 11 rfl rfl)
theorem dJ7_init_12 : decode cJ7_init 12 = .ok (.newarray .byte, 2) := dk_188_8 (dk_at dksJ7_init_0 12 rfl rfl)
theorem dJ7_init_14 : decode cJ7_init 14 = .ok (.putfield 15, 3) := dk_181 0 15 (dk_at dksJ7_init_0 14 rfl rfl)
theorem dJ7_init_17 : decode cJ7_init 17 = .ok (.aload_n 0, 1) := dk_42 (dk_at dksJ7_init_0 17 rfl rfl)
theorem dJ7_init_18 : decode cJ7_init 18 = .ok (.iconst 0, 1) := dk_3 (dk_at dksJ7_init_0 18 rfl rfl)
theorem dJ7_init_19 : decode cJ7_init 19 = .ok (.putfield 22, 3) := dk_181 0 22 (dk_at dksJ7_init_0 19 rfl rfl)
theorem dJ7_init_22 : decode cJ7_init 22 = .ok (.goto 16, 3) := dk_167 0 16 (dk_at dksJ7_init_1 0 rfl rfl)
theorem dJ7_init_25 : decode cJ7_init 25 = .ok (.aload_n 0, 1) := dk_42 (dk_at dksJ7_init_1 3 rfl rfl)
theorem dJ7_init_26 : decode cJ7_init 26 = .ok (.iload_n 1, 1) := dk_27 (dk_at dksJ7_init_1 4 rfl rfl)
theorem dJ7_init_27 : decode cJ7_init 27 = .ok (.invokestatic 26, 3) := dk_184 0 26 (dk_at dksJ7_init_1 5 rfl rfl)
theorem dJ7_init_30 : decode cJ7_init 30 = .ok (.putfield 15, 3) := dk_181 0 15 (dk_at dksJ7_init_1 8 rfl rfl)
theorem dJ7_init_33 : decode cJ7_init 33 = .ok (.aload_n 0, 1) := dk_42 (dk_at dksJ7_init_1 11 rfl rfl)
theorem dJ7_init_34 : decode cJ7_init 34 = .ok (.iconst 1, 1) := dk_4 (dk_at dksJ7_init_1 12 rfl rfl)
theorem dJ7_init_35 : decode cJ7_init 35 = .ok (.putfield 22, 3) := dk_181 0 22 (dk_at dksJ7_init_1 13 rfl rfl)
theorem dJ7_init_38 : decode cJ7_init 38 = .ok (.return_, 1) := dk_177 (dk_at dksJ7_init_1 16 rfl rfl)
abbrev cJ7_append : ByteArray := prog_21_method_22_code
def yJ7_append : MethodName := ⟨RJ7, "append", "(Ljava/lang/String;)Ljava/lang/AbstractStringBuilder;"⟩
def dkwJ7_append_1 : List UInt8 := [42, 42, 180, 0, 79, 43, 182, 0, 208, 42, 89, 180, 0, 79, 28, 96, 181, 0, 79, 42, 176]
abbrev dktJ7_append_1 : List UInt8 := dkwJ7_append_1 ++ []
def dkwJ7_append_0 : List UInt8 := [43, 199, 0, 8, 42, 182, 0, 204, 176, 43, 182, 0, 32, 61, 42, 42, 180, 0, 79, 28, 96, 182, 0, 100]
abbrev dktJ7_append_0 : List UInt8 := dkwJ7_append_0 ++ dktJ7_append_1
theorem dksJ7_append_0 : cJ7_append.data.toList.drop 0 = dktJ7_append_0 := by decide +kernel
theorem dksJ7_append_1 : cJ7_append.data.toList.drop 24 = dktJ7_append_1 := dk_seg dksJ7_append_0 24 rfl rfl
theorem dJ7_append_0 : decode cJ7_append 0 = .ok (.aload_n 1, 1) := dk_43 (dk_at dksJ7_append_0 0 rfl rfl)
theorem dJ7_append_1 : decode cJ7_append 1 = .ok (.ifnonnull 8, 3) := dk_199 0 8 (dk_at dksJ7_append_0 1 rfl rfl)
theorem dJ7_append_4 : decode cJ7_append 4 = .ok (.aload_n 0, 1) := dk_42 (dk_at dksJ7_append_0 4 rfl rfl)
theorem dJ7_append_5 : decode cJ7_append 5 = .ok (.invokevirtual 204, 3) := dk_182 0 204 (dk_at dksJ7_append_0 5 rfl rfl)
theorem dJ7_append_8 : decode cJ7_append 8 = .ok (.areturn, 1) := dk_176 (dk_at dksJ7_append_0 8 rfl rfl)
theorem dJ7_append_9 : decode cJ7_append 9 = .ok (.aload_n 1, 1) := dk_43 (dk_at dksJ7_append_0 9 rfl rfl)
theorem dJ7_append_10 : decode cJ7_append 10 = .ok (.invokevirtual 32, 3) := dk_182 0 32 (dk_at dksJ7_append_0 10 rfl rfl)
theorem dJ7_append_13 : decode cJ7_append 13 = .ok (.istore_n 2, 1) := dk_61 (dk_at dksJ7_append_0 13 rfl rfl)
theorem dJ7_append_14 : decode cJ7_append 14 = .ok (.aload_n 0, 1) := dk_42 (dk_at dksJ7_append_0 14 rfl rfl)
theorem dJ7_append_15 : decode cJ7_append 15 = .ok (.aload_n 0, 1) := dk_42 (dk_at dksJ7_append_0 15 rfl rfl)
theorem dJ7_append_16 : decode cJ7_append 16 = .ok (.getfield 79, 3) := dk_180 0 79 (dk_at dksJ7_append_0 16 rfl rfl)
theorem dJ7_append_19 : decode cJ7_append 19 = .ok (.iload_n 2, 1) := dk_28 (dk_at dksJ7_append_0 19 rfl rfl)
theorem dJ7_append_20 : decode cJ7_append 20 = .ok (.iadd, 1) := dk_96 (dk_at dksJ7_append_0 20 rfl rfl)
theorem dJ7_append_21 : decode cJ7_append 21 = .ok (.invokevirtual 100, 3) := dk_182 0 100 (dk_at dksJ7_append_0 21 rfl rfl)
theorem dJ7_append_24 : decode cJ7_append 24 = .ok (.aload_n 0, 1) := dk_42 (dk_at dksJ7_append_1 0 rfl rfl)
theorem dJ7_append_25 : decode cJ7_append 25 = .ok (.aload_n 0, 1) := dk_42 (dk_at dksJ7_append_1 1 rfl rfl)
theorem dJ7_append_26 : decode cJ7_append 26 = .ok (.getfield 79, 3) := dk_180 0 79 (dk_at dksJ7_append_1 2 rfl rfl)
theorem dJ7_append_29 : decode cJ7_append 29 = .ok (.aload_n 1, 1) := dk_43 (dk_at dksJ7_append_1 5 rfl rfl)
theorem dJ7_append_30 : decode cJ7_append 30 = .ok (.invokevirtual 208, 3) := dk_182 0 208 (dk_at dksJ7_append_1 6 rfl rfl)
theorem dJ7_append_33 : decode cJ7_append 33 = .ok (.aload_n 0, 1) := dk_42 (dk_at dksJ7_append_1 9 rfl rfl)
theorem dJ7_append_34 : decode cJ7_append 34 = .ok (.dup, 1) := dk_89 (dk_at dksJ7_append_1 10 rfl rfl)
theorem dJ7_append_35 : decode cJ7_append 35 = .ok (.getfield 79, 3) := dk_180 0 79 (dk_at dksJ7_append_1 11 rfl rfl)
theorem dJ7_append_38 : decode cJ7_append 38 = .ok (.iload_n 2, 1) := dk_28 (dk_at dksJ7_append_1 14 rfl rfl)
theorem dJ7_append_39 : decode cJ7_append 39 = .ok (.iadd, 1) := dk_96 (dk_at dksJ7_append_1 15 rfl rfl)
theorem dJ7_append_40 : decode cJ7_append 40 = .ok (.putfield 79, 3) := dk_181 0 79 (dk_at dksJ7_append_1 16 rfl rfl)
theorem dJ7_append_43 : decode cJ7_append 43 = .ok (.aload_n 0, 1) := dk_42 (dk_at dksJ7_append_1 19 rfl rfl)
theorem dJ7_append_44 : decode cJ7_append 44 = .ok (.areturn, 1) := dk_176 (dk_at dksJ7_append_1 20 rfl rfl)
abbrev cJ7_appendNull : ByteArray := prog_21_method_26_code
def yJ7_appendNull : MethodName := ⟨RJ7, "appendNull", "()Ljava/lang/AbstractStringBuilder;"⟩
def dkwJ7_appendNull_3 : List UInt8 := [184, 0, 226, 60, 42, 27, 181, 0, 79, 42, 176]
abbrev dktJ7_appendNull_3 : List UInt8 := dkwJ7_appendNull_3 ++ []
def dkwJ7_appendNull_2 : List UInt8 := [16, 108, 84, 44, 27, 132, 1, 1, 16, 108, 84, 167, 0, 17, 44, 27, 16, 110, 16, 117, 16, 108, 16, 108]
abbrev dktJ7_appendNull_2 : List UInt8 := dkwJ7_appendNull_2 ++ dktJ7_appendNull_3
def dkwJ7_appendNull_1 : List UInt8 := [153, 0, 38, 44, 27, 132, 1, 1, 16, 110, 84, 44, 27, 132, 1, 1, 16, 117, 84, 44, 27, 132, 1, 1]
abbrev dktJ7_appendNull_1 : List UInt8 := dkwJ7_appendNull_1 ++ dktJ7_appendNull_2
def dkwJ7_appendNull_0 : List UInt8 := [42, 42, 180, 0, 79, 7, 96, 182, 0, 100, 42, 180, 0, 79, 60, 42, 180, 0, 15, 77, 42, 182, 0, 83]
abbrev dktJ7_appendNull_0 : List UInt8 := dkwJ7_appendNull_0 ++ dktJ7_appendNull_1
theorem dksJ7_appendNull_0 : cJ7_appendNull.data.toList.drop 0 = dktJ7_appendNull_0 := by decide +kernel
theorem dksJ7_appendNull_1 : cJ7_appendNull.data.toList.drop 24 = dktJ7_appendNull_1 := dk_seg dksJ7_appendNull_0 24 rfl rfl
theorem dksJ7_appendNull_2 : cJ7_appendNull.data.toList.drop 48 = dktJ7_appendNull_2 := dk_seg dksJ7_appendNull_1 24 rfl rfl
theorem dksJ7_appendNull_3 : cJ7_appendNull.data.toList.drop 72 = dktJ7_appendNull_3 := dk_seg dksJ7_appendNull_2 24 rfl rfl
theorem dJ7_appendNull_0 : decode cJ7_appendNull 0 = .ok (.aload_n 0, 1) := dk_42 (dk_at dksJ7_appendNull_0 0 rfl rfl)
theorem dJ7_appendNull_1 : decode cJ7_appendNull 1 = .ok (.aload_n 0, 1) := dk_42 (dk_at dksJ7_appendNull_0 1 rfl rfl)
theorem dJ7_appendNull_2 : decode cJ7_appendNull 2 = .ok (.getfield 79, 3) := dk_180 0 79 (dk_at dksJ7_appendNull_0 2 rfl rfl)
theorem dJ7_appendNull_5 : decode cJ7_appendNull 5 = .ok (.iconst 4, 1) := dk_7 (dk_at dksJ7_appendNull_0 5 rfl rfl)
theorem dJ7_appendNull_6 : decode cJ7_appendNull 6 = .ok (.iadd, 1) := dk_96 (dk_at dksJ7_appendNull_0 6 rfl rfl)
theorem dJ7_appendNull_7 : decode cJ7_appendNull 7 = .ok (.invokevirtual 100, 3) := dk_182 0 100 (dk_at dksJ7_appendNull_0 7 rfl rfl)
theorem dJ7_appendNull_10 : decode cJ7_appendNull 10 = .ok (.aload_n 0, 1) := dk_42 (dk_at dksJ7_appendNull_0 10 rfl rfl)
theorem dJ7_appendNull_11 : decode cJ7_appendNull 11 = .ok (.getfield 79, 3) := dk_180 0 79 (dk_at dksJ7_appendNull_0 11 rfl rfl)
theorem dJ7_appendNull_14 : decode cJ7_appendNull 14 = .ok (.istore_n 1, 1) := dk_60 (dk_at dksJ7_appendNull_0 14 rfl rfl)
theorem dJ7_appendNull_15 : decode cJ7_appendNull 15 = .ok (.aload_n 0, 1) := dk_42 (dk_at dksJ7_appendNull_0 15 rfl rfl)
theorem dJ7_appendNull_16 : decode cJ7_appendNull 16 = .ok (.getfield 15, 3) := dk_180 0 15 (dk_at dksJ7_appendNull_0 16 rfl rfl)
theorem dJ7_appendNull_19 : decode cJ7_appendNull 19 = .ok (.astore_n 2, 1) := dk_77 (dk_at dksJ7_appendNull_0 19 rfl rfl)
theorem dJ7_appendNull_20 : decode cJ7_appendNull 20 = .ok (.aload_n 0, 1) := dk_42 (dk_at dksJ7_appendNull_0 20 rfl rfl)
theorem dJ7_appendNull_21 : decode cJ7_appendNull 21 = .ok (.invokevirtual 83, 3) := dk_182 0 83 (dk_at dksJ7_appendNull_0 21 rfl rfl)
theorem dJ7_appendNull_24 : decode cJ7_appendNull 24 = .ok (.ifCond .eq 38, 3) := dk_153 0 38 (dk_at dksJ7_appendNull_1 0 rfl rfl)
theorem dJ7_appendNull_27 : decode cJ7_appendNull 27 = .ok (.aload_n 2, 1) := dk_44 (dk_at dksJ7_appendNull_1 3 rfl rfl)
theorem dJ7_appendNull_28 : decode cJ7_appendNull 28 = .ok (.iload_n 1, 1) := dk_27 (dk_at dksJ7_appendNull_1 4 rfl rfl)
theorem dJ7_appendNull_29 : decode cJ7_appendNull 29 = .ok (.iinc 1 1, 3) := dk_132 1 1 (dk_at dksJ7_appendNull_1 5 rfl rfl)
theorem dJ7_appendNull_32 : decode cJ7_appendNull 32 = .ok (.bipush 110, 2) := dk_16 110 (dk_at dksJ7_appendNull_1 8 rfl rfl)
theorem dJ7_appendNull_34 : decode cJ7_appendNull 34 = .ok (.bastore, 1) := dk_84 (dk_at dksJ7_appendNull_1 10 rfl rfl)
theorem dJ7_appendNull_35 : decode cJ7_appendNull 35 = .ok (.aload_n 2, 1) := dk_44 (dk_at dksJ7_appendNull_1 11 rfl rfl)
theorem dJ7_appendNull_36 : decode cJ7_appendNull 36 = .ok (.iload_n 1, 1) := dk_27 (dk_at dksJ7_appendNull_1 12 rfl rfl)
theorem dJ7_appendNull_37 : decode cJ7_appendNull 37 = .ok (.iinc 1 1, 3) := dk_132 1 1 (dk_at dksJ7_appendNull_1 13 rfl rfl)
theorem dJ7_appendNull_40 : decode cJ7_appendNull 40 = .ok (.bipush 117, 2) := dk_16 117 (dk_at dksJ7_appendNull_1 16 rfl rfl)
theorem dJ7_appendNull_42 : decode cJ7_appendNull 42 = .ok (.bastore, 1) := dk_84 (dk_at dksJ7_appendNull_1 18 rfl rfl)
theorem dJ7_appendNull_43 : decode cJ7_appendNull 43 = .ok (.aload_n 2, 1) := dk_44 (dk_at dksJ7_appendNull_1 19 rfl rfl)
theorem dJ7_appendNull_44 : decode cJ7_appendNull 44 = .ok (.iload_n 1, 1) := dk_27 (dk_at dksJ7_appendNull_1 20 rfl rfl)
theorem dJ7_appendNull_45 : decode cJ7_appendNull 45 = .ok (.iinc 1 1, 3) := dk_132 1 1 (dk_at dksJ7_appendNull_1 21 rfl rfl)
theorem dJ7_appendNull_48 : decode cJ7_appendNull 48 = .ok (.bipush 108, 2) := dk_16 108 (dk_at dksJ7_appendNull_2 0 rfl rfl)
theorem dJ7_appendNull_50 : decode cJ7_appendNull 50 = .ok (.bastore, 1) := dk_84 (dk_at dksJ7_appendNull_2 2 rfl rfl)
theorem dJ7_appendNull_51 : decode cJ7_appendNull 51 = .ok (.aload_n 2, 1) := dk_44 (dk_at dksJ7_appendNull_2 3 rfl rfl)
theorem dJ7_appendNull_52 : decode cJ7_appendNull 52 = .ok (.iload_n 1, 1) := dk_27 (dk_at dksJ7_appendNull_2 4 rfl rfl)
theorem dJ7_appendNull_53 : decode cJ7_appendNull 53 = .ok (.iinc 1 1, 3) := dk_132 1 1 (dk_at dksJ7_appendNull_2 5 rfl rfl)
theorem dJ7_appendNull_56 : decode cJ7_appendNull 56 = .ok (.bipush 108, 2) := dk_16 108 (dk_at dksJ7_appendNull_2 8 rfl rfl)
theorem dJ7_appendNull_58 : decode cJ7_appendNull 58 = .ok (.bastore, 1) := dk_84 (dk_at dksJ7_appendNull_2 10 rfl rfl)
theorem dJ7_appendNull_59 : decode cJ7_appendNull 59 = .ok (.goto 17, 3) := dk_167 0 17 (dk_at dksJ7_appendNull_2 11 rfl rfl)
theorem dJ7_appendNull_62 : decode cJ7_appendNull 62 = .ok (.aload_n 2, 1) := dk_44 (dk_at dksJ7_appendNull_2 14 rfl rfl)
theorem dJ7_appendNull_63 : decode cJ7_appendNull 63 = .ok (.iload_n 1, 1) := dk_27 (dk_at dksJ7_appendNull_2 15 rfl rfl)
theorem dJ7_appendNull_64 : decode cJ7_appendNull 64 = .ok (.bipush 110, 2) := dk_16 110 (dk_at dksJ7_appendNull_2 16 rfl rfl)
theorem dJ7_appendNull_66 : decode cJ7_appendNull 66 = .ok (.bipush 117, 2) := dk_16 117 (dk_at dksJ7_appendNull_2 18 rfl rfl)
theorem dJ7_appendNull_68 : decode cJ7_appendNull 68 = .ok (.bipush 108, 2) := dk_16 108 (dk_at dksJ7_appendNull_2 20 rfl rfl)
theorem dJ7_appendNull_70 : decode cJ7_appendNull 70 = .ok (.bipush 108, 2) := dk_16 108 (dk_at dksJ7_appendNull_2 22 rfl rfl)
theorem dJ7_appendNull_72 : decode cJ7_appendNull 72 = .ok (.invokestatic 226, 3) := dk_184 0 226 (dk_at dksJ7_appendNull_3 0 rfl rfl)
theorem dJ7_appendNull_75 : decode cJ7_appendNull 75 = .ok (.istore_n 1, 1) := dk_60 (dk_at dksJ7_appendNull_3 3 rfl rfl)
theorem dJ7_appendNull_76 : decode cJ7_appendNull 76 = .ok (.aload_n 0, 1) := dk_42 (dk_at dksJ7_appendNull_3 4 rfl rfl)
theorem dJ7_appendNull_77 : decode cJ7_appendNull 77 = .ok (.iload_n 1, 1) := dk_27 (dk_at dksJ7_appendNull_3 5 rfl rfl)
theorem dJ7_appendNull_78 : decode cJ7_appendNull 78 = .ok (.putfield 79, 3) := dk_181 0 79 (dk_at dksJ7_appendNull_3 6 rfl rfl)
theorem dJ7_appendNull_81 : decode cJ7_appendNull 81 = .ok (.aload_n 0, 1) := dk_42 (dk_at dksJ7_appendNull_3 9 rfl rfl)
theorem dJ7_appendNull_82 : decode cJ7_appendNull 82 = .ok (.areturn, 1) := dk_176 (dk_at dksJ7_appendNull_3 10 rfl rfl)
abbrev cJ7_ensureCapacityInternal : ByteArray := prog_21_method_9_code
def yJ7_ensureCapacityInternal : MethodName := ⟨RJ7, "ensureCapacityInternal", "(I)V"⟩
def dkwJ7_ensureCapacityInternal_1 : List UInt8 := [182, 0, 104, 42, 180, 0, 22, 120, 184, 0, 108, 181, 0, 15, 177]
abbrev dktJ7_ensureCapacityInternal_1 : List UInt8 := dkwJ7_ensureCapacityInternal_1 ++ []
def dkwJ7_ensureCapacityInternal_0 : List UInt8 := [42, 180, 0, 15, 190, 42, 180, 0, 22, 122, 61, 27, 28, 100, 158, 0, 24, 42, 42, 180, 0, 15, 42, 27]
abbrev dktJ7_ensureCapacityInternal_0 : List UInt8 := dkwJ7_ensureCapacityInternal_0 ++ dktJ7_ensureCapacityInternal_1
theorem dksJ7_ensureCapacityInternal_0 : cJ7_ensureCapacityInternal.data.toList.drop 0 = dktJ7_ensureCapacityInternal_0 := by decide +kernel
theorem dksJ7_ensureCapacityInternal_1 : cJ7_ensureCapacityInternal.data.toList.drop 24 = dktJ7_ensureCapacityInternal_1 := dk_seg dksJ7_ensureCapacityInternal_0 24 rfl rfl
theorem dJ7_ensureCapacityInternal_0 : decode cJ7_ensureCapacityInternal 0 = .ok (.aload_n 0, 1) := dk_42 (dk_at dksJ7_ensureCapacityInternal_0 0 rfl rfl)
theorem dJ7_ensureCapacityInternal_1 : decode cJ7_ensureCapacityInternal 1 = .ok (.getfield 15, 3) := dk_180 0 15 (dk_at dksJ7_ensureCapacityInternal_0 1 rfl rfl)
theorem dJ7_ensureCapacityInternal_4 : decode cJ7_ensureCapacityInternal 4 = .ok (.arraylength, 1) := dk_190 (dk_at dksJ7_ensureCapacityInternal_0 4 rfl rfl)
theorem dJ7_ensureCapacityInternal_5 : decode cJ7_ensureCapacityInternal 5 = .ok (.aload_n 0, 1) := dk_42 (dk_at dksJ7_ensureCapacityInternal_0 5 rfl rfl)
theorem dJ7_ensureCapacityInternal_6 : decode cJ7_ensureCapacityInternal 6 = .ok (.getfield 22, 3) := dk_180 0 22 (dk_at dksJ7_ensureCapacityInternal_0 6 rfl rfl)
theorem dJ7_ensureCapacityInternal_9 : decode cJ7_ensureCapacityInternal 9 = .ok (.ishr, 1) := dk_122 (dk_at dksJ7_ensureCapacityInternal_0 9 rfl rfl)
theorem dJ7_ensureCapacityInternal_10 : decode cJ7_ensureCapacityInternal 10 = .ok (.istore_n 2, 1) := dk_61 (dk_at dksJ7_ensureCapacityInternal_0 10 rfl rfl)
theorem dJ7_ensureCapacityInternal_11 : decode cJ7_ensureCapacityInternal 11 = .ok (.iload_n 1, 1) := dk_27 (dk_at dksJ7_ensureCapacityInternal_0 11 rfl rfl)
theorem dJ7_ensureCapacityInternal_12 : decode cJ7_ensureCapacityInternal 12 = .ok (.iload_n 2, 1) := dk_28 (dk_at dksJ7_ensureCapacityInternal_0 12 rfl rfl)
theorem dJ7_ensureCapacityInternal_13 : decode cJ7_ensureCapacityInternal 13 = .ok (.isub, 1) := dk_100 (dk_at dksJ7_ensureCapacityInternal_0 13 rfl rfl)
theorem dJ7_ensureCapacityInternal_14 : decode cJ7_ensureCapacityInternal 14 = .ok (.ifCond .le 24, 3) := dk_158 0 24 (dk_at dksJ7_ensureCapacityInternal_0 14 rfl rfl)
theorem dJ7_ensureCapacityInternal_17 : decode cJ7_ensureCapacityInternal 17 = .ok (.aload_n 0, 1) := dk_42 (dk_at dksJ7_ensureCapacityInternal_0 17 rfl rfl)
theorem dJ7_ensureCapacityInternal_18 : decode cJ7_ensureCapacityInternal 18 = .ok (.aload_n 0, 1) := dk_42 (dk_at dksJ7_ensureCapacityInternal_0 18 rfl rfl)
theorem dJ7_ensureCapacityInternal_19 : decode cJ7_ensureCapacityInternal 19 = .ok (.getfield 15, 3) := dk_180 0 15 (dk_at dksJ7_ensureCapacityInternal_0 19 rfl rfl)
theorem dJ7_ensureCapacityInternal_22 : decode cJ7_ensureCapacityInternal 22 = .ok (.aload_n 0, 1) := dk_42 (dk_at dksJ7_ensureCapacityInternal_0 22 rfl rfl)
theorem dJ7_ensureCapacityInternal_23 : decode cJ7_ensureCapacityInternal 23 = .ok (.iload_n 1, 1) := dk_27 (dk_at dksJ7_ensureCapacityInternal_0 23 rfl rfl)
theorem dJ7_ensureCapacityInternal_24 : decode cJ7_ensureCapacityInternal 24 = .ok (.invokevirtual 104, 3) := dk_182 0 104 (dk_at dksJ7_ensureCapacityInternal_1 0 rfl rfl)
theorem dJ7_ensureCapacityInternal_27 : decode cJ7_ensureCapacityInternal 27 = .ok (.aload_n 0, 1) := dk_42 (dk_at dksJ7_ensureCapacityInternal_1 3 rfl rfl)
theorem dJ7_ensureCapacityInternal_28 : decode cJ7_ensureCapacityInternal 28 = .ok (.getfield 22, 3) := dk_180 0 22 (dk_at dksJ7_ensureCapacityInternal_1 4 rfl rfl)
theorem dJ7_ensureCapacityInternal_31 : decode cJ7_ensureCapacityInternal 31 = .ok (.ishl, 1) := dk_120 (dk_at dksJ7_ensureCapacityInternal_1 7 rfl rfl)
theorem dJ7_ensureCapacityInternal_32 : decode cJ7_ensureCapacityInternal 32 = .ok (.invokestatic 108, 3) := dk_184 0 108 (dk_at dksJ7_ensureCapacityInternal_1 8 rfl rfl)
theorem dJ7_ensureCapacityInternal_35 : decode cJ7_ensureCapacityInternal 35 = .ok (.putfield 15, 3) := dk_181 0 15 (dk_at dksJ7_ensureCapacityInternal_1 11 rfl rfl)
theorem dJ7_ensureCapacityInternal_38 : decode cJ7_ensureCapacityInternal 38 = .ok (.return_, 1) := dk_177 (dk_at dksJ7_ensureCapacityInternal_1 14 rfl rfl)
abbrev cJ7_newCapacity : ByteArray := prog_21_method_10_code
def yJ7_newCapacity : MethodName := ⟨RJ7, "newCapacity", "(I)I"⟩
def dkwJ7_newCapacity_2 : List UInt8 := [183, 0, 124, 191, 21, 5, 42, 180, 0, 22, 122, 172]
abbrev dktJ7_newCapacity_2 : List UInt8 := dkwJ7_newCapacity_2 ++ []
def dkwJ7_newCapacity_1 : List UInt8 := [180, 0, 22, 120, 96, 184, 0, 114, 54, 5, 21, 5, 18, 39, 160, 0, 13, 187, 0, 120, 89, 18, 122]
abbrev dktJ7_newCapacity_1 : List UInt8 := dkwJ7_newCapacity_1 ++ dktJ7_newCapacity_2
def dkwJ7_newCapacity_0 : List UInt8 := [42, 180, 0, 15, 190, 61, 27, 42, 180, 0, 22, 120, 62, 29, 28, 100, 54, 4, 28, 21, 4, 28, 5, 42]
abbrev dktJ7_newCapacity_0 : List UInt8 := dkwJ7_newCapacity_0 ++ dktJ7_newCapacity_1
theorem dksJ7_newCapacity_0 : cJ7_newCapacity.data.toList.drop 0 = dktJ7_newCapacity_0 := by decide +kernel
theorem dksJ7_newCapacity_1 : cJ7_newCapacity.data.toList.drop 24 = dktJ7_newCapacity_1 := dk_seg dksJ7_newCapacity_0 24 rfl rfl
theorem dksJ7_newCapacity_2 : cJ7_newCapacity.data.toList.drop 47 = dktJ7_newCapacity_2 := dk_seg dksJ7_newCapacity_1 23 rfl rfl
theorem dJ7_newCapacity_0 : decode cJ7_newCapacity 0 = .ok (.aload_n 0, 1) := dk_42 (dk_at dksJ7_newCapacity_0 0 rfl rfl)
theorem dJ7_newCapacity_1 : decode cJ7_newCapacity 1 = .ok (.getfield 15, 3) := dk_180 0 15 (dk_at dksJ7_newCapacity_0 1 rfl rfl)
theorem dJ7_newCapacity_4 : decode cJ7_newCapacity 4 = .ok (.arraylength, 1) := dk_190 (dk_at dksJ7_newCapacity_0 4 rfl rfl)
theorem dJ7_newCapacity_5 : decode cJ7_newCapacity 5 = .ok (.istore_n 2, 1) := dk_61 (dk_at dksJ7_newCapacity_0 5 rfl rfl)
theorem dJ7_newCapacity_6 : decode cJ7_newCapacity 6 = .ok (.iload_n 1, 1) := dk_27 (dk_at dksJ7_newCapacity_0 6 rfl rfl)
theorem dJ7_newCapacity_7 : decode cJ7_newCapacity 7 = .ok (.aload_n 0, 1) := dk_42 (dk_at dksJ7_newCapacity_0 7 rfl rfl)
theorem dJ7_newCapacity_8 : decode cJ7_newCapacity 8 = .ok (.getfield 22, 3) := dk_180 0 22 (dk_at dksJ7_newCapacity_0 8 rfl rfl)
theorem dJ7_newCapacity_11 : decode cJ7_newCapacity 11 = .ok (.ishl, 1) := dk_120 (dk_at dksJ7_newCapacity_0 11 rfl rfl)
theorem dJ7_newCapacity_12 : decode cJ7_newCapacity 12 = .ok (.istore_n 3, 1) := dk_62 (dk_at dksJ7_newCapacity_0 12 rfl rfl)
theorem dJ7_newCapacity_13 : decode cJ7_newCapacity 13 = .ok (.iload_n 3, 1) := dk_29 (dk_at dksJ7_newCapacity_0 13 rfl rfl)
theorem dJ7_newCapacity_14 : decode cJ7_newCapacity 14 = .ok (.iload_n 2, 1) := dk_28 (dk_at dksJ7_newCapacity_0 14 rfl rfl)
theorem dJ7_newCapacity_15 : decode cJ7_newCapacity 15 = .ok (.isub, 1) := dk_100 (dk_at dksJ7_newCapacity_0 15 rfl rfl)
theorem dJ7_newCapacity_16 : decode cJ7_newCapacity 16 = .ok (.istore 4, 2) := dk_54 4 (dk_at dksJ7_newCapacity_0 16 rfl rfl)
theorem dJ7_newCapacity_18 : decode cJ7_newCapacity 18 = .ok (.iload_n 2, 1) := dk_28 (dk_at dksJ7_newCapacity_0 18 rfl rfl)
theorem dJ7_newCapacity_19 : decode cJ7_newCapacity 19 = .ok (.iload 4, 2) := dk_21 4 (dk_at dksJ7_newCapacity_0 19 rfl rfl)
theorem dJ7_newCapacity_21 : decode cJ7_newCapacity 21 = .ok (.iload_n 2, 1) := dk_28 (dk_at dksJ7_newCapacity_0 21 rfl rfl)
theorem dJ7_newCapacity_22 : decode cJ7_newCapacity 22 = .ok (.iconst 2, 1) := dk_5 (dk_at dksJ7_newCapacity_0 22 rfl rfl)
theorem dJ7_newCapacity_23 : decode cJ7_newCapacity 23 = .ok (.aload_n 0, 1) := dk_42 (dk_at dksJ7_newCapacity_0 23 rfl rfl)
theorem dJ7_newCapacity_24 : decode cJ7_newCapacity 24 = .ok (.getfield 22, 3) := dk_180 0 22 (dk_at dksJ7_newCapacity_1 0 rfl rfl)
theorem dJ7_newCapacity_27 : decode cJ7_newCapacity 27 = .ok (.ishl, 1) := dk_120 (dk_at dksJ7_newCapacity_1 3 rfl rfl)
theorem dJ7_newCapacity_28 : decode cJ7_newCapacity 28 = .ok (.iadd, 1) := dk_96 (dk_at dksJ7_newCapacity_1 4 rfl rfl)
theorem dJ7_newCapacity_29 : decode cJ7_newCapacity 29 = .ok (.invokestatic 114, 3) := dk_184 0 114 (dk_at dksJ7_newCapacity_1 5 rfl rfl)
theorem dJ7_newCapacity_32 : decode cJ7_newCapacity 32 = .ok (.istore 5, 2) := dk_54 5 (dk_at dksJ7_newCapacity_1 8 rfl rfl)
theorem dJ7_newCapacity_34 : decode cJ7_newCapacity 34 = .ok (.iload 5, 2) := dk_21 5 (dk_at dksJ7_newCapacity_1 10 rfl rfl)
theorem dJ7_newCapacity_36 : decode cJ7_newCapacity 36 = .ok (.ldc 39, 2) := dk_18 39 (dk_at dksJ7_newCapacity_1 12 rfl rfl)
theorem dJ7_newCapacity_38 : decode cJ7_newCapacity 38 = .ok (.if_icmp .ne 13, 3) := dk_160 0 13 (dk_at dksJ7_newCapacity_1 14 rfl rfl)
theorem dJ7_newCapacity_41 : decode cJ7_newCapacity 41 = .ok (.new 120, 3) := dk_187 0 120 (dk_at dksJ7_newCapacity_1 17 rfl rfl)
theorem dJ7_newCapacity_44 : decode cJ7_newCapacity 44 = .ok (.dup, 1) := dk_89 (dk_at dksJ7_newCapacity_1 20 rfl rfl)
theorem dJ7_newCapacity_45 : decode cJ7_newCapacity 45 = .ok (.ldc 122, 2) := dk_18 122 (dk_at dksJ7_newCapacity_1 21 rfl rfl)
theorem dJ7_newCapacity_47 : decode cJ7_newCapacity 47 = .ok (.invokespecial 124, 3) := dk_183 0 124 (dk_at dksJ7_newCapacity_2 0 rfl rfl)
theorem dJ7_newCapacity_50 : decode cJ7_newCapacity 50 = .ok (.athrow, 1) := dk_191 (dk_at dksJ7_newCapacity_2 3 rfl rfl)
theorem dJ7_newCapacity_51 : decode cJ7_newCapacity 51 = .ok (.iload 5, 2) := dk_21 5 (dk_at dksJ7_newCapacity_2 4 rfl rfl)
theorem dJ7_newCapacity_53 : decode cJ7_newCapacity 53 = .ok (.aload_n 0, 1) := dk_42 (dk_at dksJ7_newCapacity_2 6 rfl rfl)
theorem dJ7_newCapacity_54 : decode cJ7_newCapacity 54 = .ok (.getfield 22, 3) := dk_180 0 22 (dk_at dksJ7_newCapacity_2 7 rfl rfl)
theorem dJ7_newCapacity_57 : decode cJ7_newCapacity 57 = .ok (.ishr, 1) := dk_122 (dk_at dksJ7_newCapacity_2 10 rfl rfl)
theorem dJ7_newCapacity_58 : decode cJ7_newCapacity 58 = .ok (.ireturn, 1) := dk_172 (dk_at dksJ7_newCapacity_2 11 rfl rfl)
abbrev cJ7_isLatin1 : ByteArray := prog_21_method_68_code
def yJ7_isLatin1 : MethodName := ⟨RJ7, "isLatin1", "()Z"⟩
def dkwJ7_isLatin1_0 : List UInt8 := [178, 0, 18, 153, 0, 14, 42, 180, 0, 22, 154, 0, 7, 4, 167, 0, 4, 3, 172]
abbrev dktJ7_isLatin1_0 : List UInt8 := dkwJ7_isLatin1_0 ++ []
theorem dksJ7_isLatin1_0 : cJ7_isLatin1.data.toList.drop 0 = dktJ7_isLatin1_0 := by decide +kernel
theorem dJ7_isLatin1_0 : decode cJ7_isLatin1 0 = .ok (.getstatic 18, 3) := dk_178 0 18 (dk_at dksJ7_isLatin1_0 0 rfl rfl)
theorem dJ7_isLatin1_3 : decode cJ7_isLatin1 3 = .ok (.ifCond .eq 14, 3) := dk_153 0 14 (dk_at dksJ7_isLatin1_0 3 rfl rfl)
theorem dJ7_isLatin1_6 : decode cJ7_isLatin1 6 = .ok (.aload_n 0, 1) := dk_42 (dk_at dksJ7_isLatin1_0 6 rfl rfl)
theorem dJ7_isLatin1_7 : decode cJ7_isLatin1 7 = .ok (.getfield 22, 3) := dk_180 0 22 (dk_at dksJ7_isLatin1_0 7 rfl rfl)
theorem dJ7_isLatin1_10 : decode cJ7_isLatin1 10 = .ok (.ifCond .ne 7, 3) := dk_154 0 7 (dk_at dksJ7_isLatin1_0 10 rfl rfl)
theorem dJ7_isLatin1_13 : decode cJ7_isLatin1 13 = .ok (.iconst 1, 1) := dk_4 (dk_at dksJ7_isLatin1_0 13 rfl rfl)
theorem dJ7_isLatin1_14 : decode cJ7_isLatin1 14 = .ok (.goto 4, 3) := dk_167 0 4 (dk_at dksJ7_isLatin1_0 14 rfl rfl)
theorem dJ7_isLatin1_17 : decode cJ7_isLatin1 17 = .ok (.iconst 0, 1) := dk_3 (dk_at dksJ7_isLatin1_0 17 rfl rfl)
theorem dJ7_isLatin1_18 : decode cJ7_isLatin1 18 = .ok (.ireturn, 1) := dk_172 (dk_at dksJ7_isLatin1_0 18 rfl rfl)
abbrev cJ7_putStringAt : ByteArray := prog_21_method_73_code
def yJ7_putStringAt : MethodName := ⟨RJ7, "putStringAt", "(ILjava/lang/String;)V"⟩
def dkwJ7_putStringAt_0 : List UInt8 := [42, 44, 182, 1, 141, 44, 42, 180, 0, 15, 27, 42, 180, 0, 22, 182, 1, 143, 177]
abbrev dktJ7_putStringAt_0 : List UInt8 := dkwJ7_putStringAt_0 ++ []
theorem dksJ7_putStringAt_0 : cJ7_putStringAt.data.toList.drop 0 = dktJ7_putStringAt_0 := by decide +kernel
theorem dJ7_putStringAt_0 : decode cJ7_putStringAt 0 = .ok (.aload_n 0, 1) := dk_42 (dk_at dksJ7_putStringAt_0 0 rfl rfl)
theorem dJ7_putStringAt_1 : decode cJ7_putStringAt 1 = .ok (.aload_n 2, 1) := dk_44 (dk_at dksJ7_putStringAt_0 1 rfl rfl)
theorem dJ7_putStringAt_2 : decode cJ7_putStringAt 2 = .ok (.invokevirtual 397, 3) := dk_182 1 141 (dk_at dksJ7_putStringAt_0 2 rfl rfl)
theorem dJ7_putStringAt_5 : decode cJ7_putStringAt 5 = .ok (.aload_n 2, 1) := dk_44 (dk_at dksJ7_putStringAt_0 5 rfl rfl)
theorem dJ7_putStringAt_6 : decode cJ7_putStringAt 6 = .ok (.aload_n 0, 1) := dk_42 (dk_at dksJ7_putStringAt_0 6 rfl rfl)
theorem dJ7_putStringAt_7 : decode cJ7_putStringAt 7 = .ok (.getfield 15, 3) := dk_180 0 15 (dk_at dksJ7_putStringAt_0 7 rfl rfl)
theorem dJ7_putStringAt_10 : decode cJ7_putStringAt 10 = .ok (.iload_n 1, 1) := dk_27 (dk_at dksJ7_putStringAt_0 10 rfl rfl)
theorem dJ7_putStringAt_11 : decode cJ7_putStringAt 11 = .ok (.aload_n 0, 1) := dk_42 (dk_at dksJ7_putStringAt_0 11 rfl rfl)
theorem dJ7_putStringAt_12 : decode cJ7_putStringAt 12 = .ok (.getfield 22, 3) := dk_180 0 22 (dk_at dksJ7_putStringAt_0 12 rfl rfl)
theorem dJ7_putStringAt_15 : decode cJ7_putStringAt 15 = .ok (.invokevirtual 399, 3) := dk_182 1 143 (dk_at dksJ7_putStringAt_0 15 rfl rfl)
theorem dJ7_putStringAt_18 : decode cJ7_putStringAt 18 = .ok (.return_, 1) := dk_177 (dk_at dksJ7_putStringAt_0 18 rfl rfl)
abbrev cJ7_inflateIfNeededFor : ByteArray := prog_21_method_71_code
def yJ7_inflateIfNeededFor : MethodName := ⟨RJ7, "inflateIfNeededFor", "(Ljava/lang/String;)V"⟩
def dkwJ7_inflateIfNeededFor_0 : List UInt8 := [178, 0, 18, 153, 0, 18, 42, 180, 0, 22, 43, 182, 0, 40, 159, 0, 7, 42, 182, 0, 195, 177]
abbrev dktJ7_inflateIfNeededFor_0 : List UInt8 := dkwJ7_inflateIfNeededFor_0 ++ []
theorem dksJ7_inflateIfNeededFor_0 : cJ7_inflateIfNeededFor.data.toList.drop 0 = dktJ7_inflateIfNeededFor_0 := by decide +kernel
theorem dJ7_inflateIfNeededFor_0 : decode cJ7_inflateIfNeededFor 0 = .ok (.getstatic 18, 3) := dk_178 0 18 (dk_at dksJ7_inflateIfNeededFor_0 0 rfl rfl)
theorem dJ7_inflateIfNeededFor_3 : decode cJ7_inflateIfNeededFor 3 = .ok (.ifCond .eq 18, 3) := dk_153 0 18 (dk_at dksJ7_inflateIfNeededFor_0 3 rfl rfl)
theorem dJ7_inflateIfNeededFor_6 : decode cJ7_inflateIfNeededFor 6 = .ok (.aload_n 0, 1) := dk_42 (dk_at dksJ7_inflateIfNeededFor_0 6 rfl rfl)
theorem dJ7_inflateIfNeededFor_7 : decode cJ7_inflateIfNeededFor 7 = .ok (.getfield 22, 3) := dk_180 0 22 (dk_at dksJ7_inflateIfNeededFor_0 7 rfl rfl)
theorem dJ7_inflateIfNeededFor_10 : decode cJ7_inflateIfNeededFor 10 = .ok (.aload_n 1, 1) := dk_43 (dk_at dksJ7_inflateIfNeededFor_0 10 rfl rfl)
theorem dJ7_inflateIfNeededFor_11 : decode cJ7_inflateIfNeededFor 11 = .ok (.invokevirtual 40, 3) := dk_182 0 40 (dk_at dksJ7_inflateIfNeededFor_0 11 rfl rfl)
theorem dJ7_inflateIfNeededFor_14 : decode cJ7_inflateIfNeededFor 14 = .ok (.if_icmp .eq 7, 3) := dk_159 0 7 (dk_at dksJ7_inflateIfNeededFor_0 14 rfl rfl)
theorem dJ7_inflateIfNeededFor_17 : decode cJ7_inflateIfNeededFor 17 = .ok (.aload_n 0, 1) := dk_42 (dk_at dksJ7_inflateIfNeededFor_0 17 rfl rfl)
theorem dJ7_inflateIfNeededFor_18 : decode cJ7_inflateIfNeededFor 18 = .ok (.invokevirtual 195, 3) := dk_182 0 195 (dk_at dksJ7_inflateIfNeededFor_0 18 rfl rfl)
theorem dJ7_inflateIfNeededFor_21 : decode cJ7_inflateIfNeededFor 21 = .ok (.return_, 1) := dk_177 (dk_at dksJ7_inflateIfNeededFor_0 21 rfl rfl)
abbrev cJ7_inflate : ByteArray := prog_21_method_11_code
def yJ7_inflate : MethodName := ⟨RJ7, "inflate", "()V"⟩
def dkwJ7_inflate_1 : List UInt8 := [42, 180, 0, 79, 184, 0, 125, 42, 43, 181, 0, 15, 42, 4, 181, 0, 22, 177]
abbrev dktJ7_inflate_1 : List UInt8 := dkwJ7_inflate_1 ++ []
def dkwJ7_inflate_0 : List UInt8 := [42, 182, 0, 83, 154, 0, 4, 177, 42, 180, 0, 15, 190, 184, 0, 26, 76, 42, 180, 0, 15, 3, 43, 3]
abbrev dktJ7_inflate_0 : List UInt8 := dkwJ7_inflate_0 ++ dktJ7_inflate_1
theorem dksJ7_inflate_0 : cJ7_inflate.data.toList.drop 0 = dktJ7_inflate_0 := by decide +kernel
theorem dksJ7_inflate_1 : cJ7_inflate.data.toList.drop 24 = dktJ7_inflate_1 := dk_seg dksJ7_inflate_0 24 rfl rfl
theorem dJ7_inflate_0 : decode cJ7_inflate 0 = .ok (.aload_n 0, 1) := dk_42 (dk_at dksJ7_inflate_0 0 rfl rfl)
theorem dJ7_inflate_1 : decode cJ7_inflate 1 = .ok (.invokevirtual 83, 3) := dk_182 0 83 (dk_at dksJ7_inflate_0 1 rfl rfl)
theorem dJ7_inflate_4 : decode cJ7_inflate 4 = .ok (.ifCond .ne 4, 3) := dk_154 0 4 (dk_at dksJ7_inflate_0 4 rfl rfl)
theorem dJ7_inflate_7 : decode cJ7_inflate 7 = .ok (.return_, 1) := dk_177 (dk_at dksJ7_inflate_0 7 rfl rfl)
theorem dJ7_inflate_8 : decode cJ7_inflate 8 = .ok (.aload_n 0, 1) := dk_42 (dk_at dksJ7_inflate_0 8 rfl rfl)
theorem dJ7_inflate_9 : decode cJ7_inflate 9 = .ok (.getfield 15, 3) := dk_180 0 15 (dk_at dksJ7_inflate_0 9 rfl rfl)
theorem dJ7_inflate_12 : decode cJ7_inflate 12 = .ok (.arraylength, 1) := dk_190 (dk_at dksJ7_inflate_0 12 rfl rfl)
theorem dJ7_inflate_13 : decode cJ7_inflate 13 = .ok (.invokestatic 26, 3) := dk_184 0 26 (dk_at dksJ7_inflate_0 13 rfl rfl)
theorem dJ7_inflate_16 : decode cJ7_inflate 16 = .ok (.astore_n 1, 1) := dk_76 (dk_at dksJ7_inflate_0 16 rfl rfl)
theorem dJ7_inflate_17 : decode cJ7_inflate 17 = .ok (.aload_n 0, 1) := dk_42 (dk_at dksJ7_inflate_0 17 rfl rfl)
theorem dJ7_inflate_18 : decode cJ7_inflate 18 = .ok (.getfield 15, 3) := dk_180 0 15 (dk_at dksJ7_inflate_0 18 rfl rfl)
theorem dJ7_inflate_21 : decode cJ7_inflate 21 = .ok (.iconst 0, 1) := dk_3 (dk_at dksJ7_inflate_0 21 rfl rfl)
theorem dJ7_inflate_22 : decode cJ7_inflate 22 = .ok (.aload_n 1, 1) := dk_43 (dk_at dksJ7_inflate_0 22 rfl rfl)
theorem dJ7_inflate_23 : decode cJ7_inflate 23 = .ok (.iconst 0, 1) := dk_3 (dk_at dksJ7_inflate_0 23 rfl rfl)
theorem dJ7_inflate_24 : decode cJ7_inflate 24 = .ok (.aload_n 0, 1) := dk_42 (dk_at dksJ7_inflate_1 0 rfl rfl)
theorem dJ7_inflate_25 : decode cJ7_inflate 25 = .ok (.getfield 79, 3) := dk_180 0 79 (dk_at dksJ7_inflate_1 1 rfl rfl)
theorem dJ7_inflate_28 : decode cJ7_inflate 28 = .ok (.invokestatic 125, 3) := dk_184 0 125 (dk_at dksJ7_inflate_1 4 rfl rfl)
theorem dJ7_inflate_31 : decode cJ7_inflate 31 = .ok (.aload_n 0, 1) := dk_42 (dk_at dksJ7_inflate_1 7 rfl rfl)
theorem dJ7_inflate_32 : decode cJ7_inflate 32 = .ok (.aload_n 1, 1) := dk_43 (dk_at dksJ7_inflate_1 8 rfl rfl)
theorem dJ7_inflate_33 : decode cJ7_inflate 33 = .ok (.putfield 15, 3) := dk_181 0 15 (dk_at dksJ7_inflate_1 9 rfl rfl)
theorem dJ7_inflate_36 : decode cJ7_inflate 36 = .ok (.aload_n 0, 1) := dk_42 (dk_at dksJ7_inflate_1 12 rfl rfl)
theorem dJ7_inflate_37 : decode cJ7_inflate 37 = .ok (.iconst 1, 1) := dk_4 (dk_at dksJ7_inflate_1 13 rfl rfl)
theorem dJ7_inflate_38 : decode cJ7_inflate 38 = .ok (.putfield 22, 3) := dk_181 0 22 (dk_at dksJ7_inflate_1 14 rfl rfl)
theorem dJ7_inflate_41 : decode cJ7_inflate 41 = .ok (.return_, 1) := dk_177 (dk_at dksJ7_inflate_1 17 rfl rfl)
abbrev cJ7_append_2 : ByteArray := prog_21_method_32_code
def yJ7_append_2 : MethodName := ⟨RJ7, "append", "(I)Ljava/lang/AbstractStringBuilder;"⟩
def dkwJ7_append_2_2 : List UInt8 := [42, 29, 181, 0, 79, 42, 176]
abbrev dktJ7_append_2_2 : List UInt8 := dkwJ7_append_2_2 ++ []
def dkwJ7_append_2_1 : List UInt8 := [27, 29, 42, 180, 0, 15, 184, 0, 248, 87, 167, 0, 14, 27, 28, 29, 42, 180, 0, 15, 184, 0, 251, 87]
abbrev dktJ7_append_2_1 : List UInt8 := dkwJ7_append_2_1 ++ dktJ7_append_2_2
def dkwJ7_append_2_0 : List UInt8 := [42, 180, 0, 79, 61, 28, 27, 184, 0, 245, 96, 62, 42, 29, 182, 0, 100, 42, 182, 0, 83, 153, 0, 16]
abbrev dktJ7_append_2_0 : List UInt8 := dkwJ7_append_2_0 ++ dktJ7_append_2_1
theorem dksJ7_append_2_0 : cJ7_append_2.data.toList.drop 0 = dktJ7_append_2_0 := by decide +kernel
theorem dksJ7_append_2_1 : cJ7_append_2.data.toList.drop 24 = dktJ7_append_2_1 := dk_seg dksJ7_append_2_0 24 rfl rfl
theorem dksJ7_append_2_2 : cJ7_append_2.data.toList.drop 48 = dktJ7_append_2_2 := dk_seg dksJ7_append_2_1 24 rfl rfl
theorem dJ7_append_2_0 : decode cJ7_append_2 0 = .ok (.aload_n 0, 1) := dk_42 (dk_at dksJ7_append_2_0 0 rfl rfl)
theorem dJ7_append_2_1 : decode cJ7_append_2 1 = .ok (.getfield 79, 3) := dk_180 0 79 (dk_at dksJ7_append_2_0 1 rfl rfl)
theorem dJ7_append_2_4 : decode cJ7_append_2 4 = .ok (.istore_n 2, 1) := dk_61 (dk_at dksJ7_append_2_0 4 rfl rfl)
theorem dJ7_append_2_5 : decode cJ7_append_2 5 = .ok (.iload_n 2, 1) := dk_28 (dk_at dksJ7_append_2_0 5 rfl rfl)
theorem dJ7_append_2_6 : decode cJ7_append_2 6 = .ok (.iload_n 1, 1) := dk_27 (dk_at dksJ7_append_2_0 6 rfl rfl)
theorem dJ7_append_2_7 : decode cJ7_append_2 7 = .ok (.invokestatic 245, 3) := dk_184 0 245 (dk_at dksJ7_append_2_0 7 rfl rfl)
theorem dJ7_append_2_10 : decode cJ7_append_2 10 = .ok (.iadd, 1) := dk_96 (dk_at dksJ7_append_2_0 10 rfl rfl)
theorem dJ7_append_2_11 : decode cJ7_append_2 11 = .ok (.istore_n 3, 1) := dk_62 (dk_at dksJ7_append_2_0 11 rfl rfl)
theorem dJ7_append_2_12 : decode cJ7_append_2 12 = .ok (.aload_n 0, 1) := dk_42 (dk_at dksJ7_append_2_0 12 rfl rfl)
theorem dJ7_append_2_13 : decode cJ7_append_2 13 = .ok (.iload_n 3, 1) := dk_29 (dk_at dksJ7_append_2_0 13 rfl rfl)
theorem dJ7_append_2_14 : decode cJ7_append_2 14 = .ok (.invokevirtual 100, 3) := dk_182 0 100 (dk_at dksJ7_append_2_0 14 rfl rfl)
theorem dJ7_append_2_17 : decode cJ7_append_2 17 = .ok (.aload_n 0, 1) := dk_42 (dk_at dksJ7_append_2_0 17 rfl rfl)
theorem dJ7_append_2_18 : decode cJ7_append_2 18 = .ok (.invokevirtual 83, 3) := dk_182 0 83 (dk_at dksJ7_append_2_0 18 rfl rfl)
theorem dJ7_append_2_21 : decode cJ7_append_2 21 = .ok (.ifCond .eq 16, 3) := dk_153 0 16 (dk_at dksJ7_append_2_0 21 rfl rfl)
theorem dJ7_append_2_24 : decode cJ7_append_2 24 = .ok (.iload_n 1, 1) := dk_27 (dk_at dksJ7_append_2_1 0 rfl rfl)
theorem dJ7_append_2_25 : decode cJ7_append_2 25 = .ok (.iload_n 3, 1) := dk_29 (dk_at dksJ7_append_2_1 1 rfl rfl)
theorem dJ7_append_2_26 : decode cJ7_append_2 26 = .ok (.aload_n 0, 1) := dk_42 (dk_at dksJ7_append_2_1 2 rfl rfl)
theorem dJ7_append_2_27 : decode cJ7_append_2 27 = .ok (.getfield 15, 3) := dk_180 0 15 (dk_at dksJ7_append_2_1 3 rfl rfl)
theorem dJ7_append_2_30 : decode cJ7_append_2 30 = .ok (.invokestatic 248, 3) := dk_184 0 248 (dk_at dksJ7_append_2_1 6 rfl rfl)
theorem dJ7_append_2_33 : decode cJ7_append_2 33 = .ok (.pop, 1) := dk_87 (dk_at dksJ7_append_2_1 9 rfl rfl)
theorem dJ7_append_2_34 : decode cJ7_append_2 34 = .ok (.goto 14, 3) := dk_167 0 14 (dk_at dksJ7_append_2_1 10 rfl rfl)
theorem dJ7_append_2_37 : decode cJ7_append_2 37 = .ok (.iload_n 1, 1) := dk_27 (dk_at dksJ7_append_2_1 13 rfl rfl)
theorem dJ7_append_2_38 : decode cJ7_append_2 38 = .ok (.iload_n 2, 1) := dk_28 (dk_at dksJ7_append_2_1 14 rfl rfl)
theorem dJ7_append_2_39 : decode cJ7_append_2 39 = .ok (.iload_n 3, 1) := dk_29 (dk_at dksJ7_append_2_1 15 rfl rfl)
theorem dJ7_append_2_40 : decode cJ7_append_2 40 = .ok (.aload_n 0, 1) := dk_42 (dk_at dksJ7_append_2_1 16 rfl rfl)
theorem dJ7_append_2_41 : decode cJ7_append_2 41 = .ok (.getfield 15, 3) := dk_180 0 15 (dk_at dksJ7_append_2_1 17 rfl rfl)
theorem dJ7_append_2_44 : decode cJ7_append_2 44 = .ok (.invokestatic 251, 3) := dk_184 0 251 (dk_at dksJ7_append_2_1 20 rfl rfl)
theorem dJ7_append_2_47 : decode cJ7_append_2 47 = .ok (.pop, 1) := dk_87 (dk_at dksJ7_append_2_1 23 rfl rfl)
theorem dJ7_append_2_48 : decode cJ7_append_2 48 = .ok (.aload_n 0, 1) := dk_42 (dk_at dksJ7_append_2_2 0 rfl rfl)
theorem dJ7_append_2_49 : decode cJ7_append_2 49 = .ok (.iload_n 3, 1) := dk_29 (dk_at dksJ7_append_2_2 1 rfl rfl)
theorem dJ7_append_2_50 : decode cJ7_append_2 50 = .ok (.putfield 79, 3) := dk_181 0 79 (dk_at dksJ7_append_2_2 2 rfl rfl)
theorem dJ7_append_2_53 : decode cJ7_append_2 53 = .ok (.aload_n 0, 1) := dk_42 (dk_at dksJ7_append_2_2 5 rfl rfl)
theorem dJ7_append_2_54 : decode cJ7_append_2 54 = .ok (.areturn, 1) := dk_176 (dk_at dksJ7_append_2_2 6 rfl rfl)
abbrev cJ7_getValue : ByteArray := prog_21_method_64_code
def yJ7_getValue : MethodName := ⟨RJ7, "getValue", "()[B"⟩
theorem dJ7_getValue_0 : decode cJ7_getValue 0 = .ok (.aload_n 0, 1) := by decide +kernel
theorem dJ7_getValue_1 : decode cJ7_getValue 1 = .ok (.getfield 15, 3) := by decide +kernel
theorem dJ7_getValue_4 : decode cJ7_getValue 4 = .ok (.areturn, 1) := by decide +kernel
abbrev cJ7_length : ByteArray := prog_21_method_6_code
def yJ7_length : MethodName := ⟨RJ7, "length", "()I"⟩
theorem dJ7_length_0 : decode cJ7_length 0 = .ok (.aload_n 0, 1) := by decide +kernel
theorem dJ7_length_1 : decode cJ7_length 1 = .ok (.getfield 79, 3) := by decide +kernel
theorem dJ7_length_4 : decode cJ7_length 4 = .ok (.ireturn, 1) := by decide +kernel
abbrev cJ7_append_3 : ByteArray := prog_21_method_31_code
def yJ7_append_3 : MethodName := ⟨RJ7, "append", "(C)Ljava/lang/AbstractStringBuilder;"⟩
def dkwJ7_append_3_3 : List UInt8 := [181, 0, 79, 27, 184, 0, 197, 42, 176]
abbrev dktJ7_append_3_3 : List UInt8 := dkwJ7_append_3_3 ++ []
def dkwJ7_append_3_2 : List UInt8 := [182, 0, 83, 153, 0, 7, 42, 182, 0, 195, 42, 180, 0, 15, 42, 89, 180, 0, 79, 90, 4, 96]
abbrev dktJ7_append_3_2 : List UInt8 := dkwJ7_append_3_2 ++ dktJ7_append_3_3
def dkwJ7_append_3_1 : List UInt8 := [42, 180, 0, 15, 42, 89, 180, 0, 79, 90, 4, 96, 181, 0, 79, 27, 145, 84, 167, 0, 33, 42]
abbrev dktJ7_append_3_1 : List UInt8 := dkwJ7_append_3_1 ++ dktJ7_append_3_2
def dkwJ7_append_3_0 : List UInt8 := [42, 42, 180, 0, 79, 4, 96, 182, 0, 100, 42, 182, 0, 83, 153, 0, 31, 27, 184, 0, 191, 153, 0, 24]
abbrev dktJ7_append_3_0 : List UInt8 := dkwJ7_append_3_0 ++ dktJ7_append_3_1
theorem dksJ7_append_3_0 : cJ7_append_3.data.toList.drop 0 = dktJ7_append_3_0 := by decide +kernel
theorem dksJ7_append_3_1 : cJ7_append_3.data.toList.drop 24 = dktJ7_append_3_1 := dk_seg dksJ7_append_3_0 24 rfl rfl
theorem dksJ7_append_3_2 : cJ7_append_3.data.toList.drop 46 = dktJ7_append_3_2 := dk_seg dksJ7_append_3_1 22 rfl rfl
theorem dksJ7_append_3_3 : cJ7_append_3.data.toList.drop 68 = dktJ7_append_3_3 := dk_seg dksJ7_append_3_2 22 rfl rfl
theorem dJ7_append_3_0 : decode cJ7_append_3 0 = .ok (.aload_n 0, 1) := dk_42 (dk_at dksJ7_append_3_0 0 rfl rfl)
theorem dJ7_append_3_1 : decode cJ7_append_3 1 = .ok (.aload_n 0, 1) := dk_42 (dk_at dksJ7_append_3_0 1 rfl rfl)
theorem dJ7_append_3_2 : decode cJ7_append_3 2 = .ok (.getfield 79, 3) := dk_180 0 79 (dk_at dksJ7_append_3_0 2 rfl rfl)
theorem dJ7_append_3_5 : decode cJ7_append_3 5 = .ok (.iconst 1, 1) := dk_4 (dk_at dksJ7_append_3_0 5 rfl rfl)
theorem dJ7_append_3_6 : decode cJ7_append_3 6 = .ok (.iadd, 1) := dk_96 (dk_at dksJ7_append_3_0 6 rfl rfl)
theorem dJ7_append_3_7 : decode cJ7_append_3 7 = .ok (.invokevirtual 100, 3) := dk_182 0 100 (dk_at dksJ7_append_3_0 7 rfl rfl)
theorem dJ7_append_3_10 : decode cJ7_append_3 10 = .ok (.aload_n 0, 1) := dk_42 (dk_at dksJ7_append_3_0 10 rfl rfl)
theorem dJ7_append_3_11 : decode cJ7_append_3 11 = .ok (.invokevirtual 83, 3) := dk_182 0 83 (dk_at dksJ7_append_3_0 11 rfl rfl)
theorem dJ7_append_3_14 : decode cJ7_append_3 14 = .ok (.ifCond .eq 31, 3) := dk_153 0 31 (dk_at dksJ7_append_3_0 14 rfl rfl)
theorem dJ7_append_3_17 : decode cJ7_append_3 17 = .ok (.iload_n 1, 1) := dk_27 (dk_at dksJ7_append_3_0 17 rfl rfl)
theorem dJ7_append_3_18 : decode cJ7_append_3 18 = .ok (.invokestatic 191, 3) := dk_184 0 191 (dk_at dksJ7_append_3_0 18 rfl rfl)
theorem dJ7_append_3_21 : decode cJ7_append_3 21 = .ok (.ifCond .eq 24, 3) := dk_153 0 24 (dk_at dksJ7_append_3_0 21 rfl rfl)
theorem dJ7_append_3_24 : decode cJ7_append_3 24 = .ok (.aload_n 0, 1) := dk_42 (dk_at dksJ7_append_3_1 0 rfl rfl)
theorem dJ7_append_3_25 : decode cJ7_append_3 25 = .ok (.getfield 15, 3) := dk_180 0 15 (dk_at dksJ7_append_3_1 1 rfl rfl)
theorem dJ7_append_3_28 : decode cJ7_append_3 28 = .ok (.aload_n 0, 1) := dk_42 (dk_at dksJ7_append_3_1 4 rfl rfl)
theorem dJ7_append_3_29 : decode cJ7_append_3 29 = .ok (.dup, 1) := dk_89 (dk_at dksJ7_append_3_1 5 rfl rfl)
theorem dJ7_append_3_30 : decode cJ7_append_3 30 = .ok (.getfield 79, 3) := dk_180 0 79 (dk_at dksJ7_append_3_1 6 rfl rfl)
theorem dJ7_append_3_33 : decode cJ7_append_3 33 = .ok (.dup_x1, 1) := dk_90 (dk_at dksJ7_append_3_1 9 rfl rfl)
theorem dJ7_append_3_34 : decode cJ7_append_3 34 = .ok (.iconst 1, 1) := dk_4 (dk_at dksJ7_append_3_1 10 rfl rfl)
theorem dJ7_append_3_35 : decode cJ7_append_3 35 = .ok (.iadd, 1) := dk_96 (dk_at dksJ7_append_3_1 11 rfl rfl)
theorem dJ7_append_3_36 : decode cJ7_append_3 36 = .ok (.putfield 79, 3) := dk_181 0 79 (dk_at dksJ7_append_3_1 12 rfl rfl)
theorem dJ7_append_3_39 : decode cJ7_append_3 39 = .ok (.iload_n 1, 1) := dk_27 (dk_at dksJ7_append_3_1 15 rfl rfl)
theorem dJ7_append_3_40 : decode cJ7_append_3 40 = .ok (.i2b, 1) := dk_145 (dk_at dksJ7_append_3_1 16 rfl rfl)
theorem dJ7_append_3_41 : decode cJ7_append_3 41 = .ok (.bastore, 1) := dk_84 (dk_at dksJ7_append_3_1 17 rfl rfl)
theorem dJ7_append_3_42 : decode cJ7_append_3 42 = .ok (.goto 33, 3) := dk_167 0 33 (dk_at dksJ7_append_3_1 18 rfl rfl)
theorem dJ7_append_3_45 : decode cJ7_append_3 45 = .ok (.aload_n 0, 1) := dk_42 (dk_at dksJ7_append_3_1 21 rfl rfl)
theorem dJ7_append_3_46 : decode cJ7_append_3 46 = .ok (.invokevirtual 83, 3) := dk_182 0 83 (dk_at dksJ7_append_3_2 0 rfl rfl)
theorem dJ7_append_3_49 : decode cJ7_append_3 49 = .ok (.ifCond .eq 7, 3) := dk_153 0 7 (dk_at dksJ7_append_3_2 3 rfl rfl)
theorem dJ7_append_3_52 : decode cJ7_append_3 52 = .ok (.aload_n 0, 1) := dk_42 (dk_at dksJ7_append_3_2 6 rfl rfl)
theorem dJ7_append_3_53 : decode cJ7_append_3 53 = .ok (.invokevirtual 195, 3) := dk_182 0 195 (dk_at dksJ7_append_3_2 7 rfl rfl)
theorem dJ7_append_3_56 : decode cJ7_append_3 56 = .ok (.aload_n 0, 1) := dk_42 (dk_at dksJ7_append_3_2 10 rfl rfl)
theorem dJ7_append_3_57 : decode cJ7_append_3 57 = .ok (.getfield 15, 3) := dk_180 0 15 (dk_at dksJ7_append_3_2 11 rfl rfl)
theorem dJ7_append_3_60 : decode cJ7_append_3 60 = .ok (.aload_n 0, 1) := dk_42 (dk_at dksJ7_append_3_2 14 rfl rfl)
theorem dJ7_append_3_61 : decode cJ7_append_3 61 = .ok (.dup, 1) := dk_89 (dk_at dksJ7_append_3_2 15 rfl rfl)
theorem dJ7_append_3_62 : decode cJ7_append_3 62 = .ok (.getfield 79, 3) := dk_180 0 79 (dk_at dksJ7_append_3_2 16 rfl rfl)
theorem dJ7_append_3_65 : decode cJ7_append_3 65 = .ok (.dup_x1, 1) := dk_90 (dk_at dksJ7_append_3_2 19 rfl rfl)
theorem dJ7_append_3_66 : decode cJ7_append_3 66 = .ok (.iconst 1, 1) := dk_4 (dk_at dksJ7_append_3_2 20 rfl rfl)
theorem dJ7_append_3_67 : decode cJ7_append_3 67 = .ok (.iadd, 1) := dk_96 (dk_at dksJ7_append_3_2 21 rfl rfl)
theorem dJ7_append_3_68 : decode cJ7_append_3 68 = .ok (.putfield 79, 3) := dk_181 0 79 (dk_at dksJ7_append_3_3 0 rfl rfl)
theorem dJ7_append_3_71 : decode cJ7_append_3 71 = .ok (.iload_n 1, 1) := dk_27 (dk_at dksJ7_append_3_3 3 rfl rfl)
theorem dJ7_append_3_72 : decode cJ7_append_3 72 = .ok (.invokestatic 197, 3) := dk_184 0 197 (dk_at dksJ7_append_3_3 4 rfl rfl)
theorem dJ7_append_3_75 : decode cJ7_append_3 75 = .ok (.aload_n 0, 1) := dk_42 (dk_at dksJ7_append_3_3 7 rfl rfl)
theorem dJ7_append_3_76 : decode cJ7_append_3 76 = .ok (.areturn, 1) := dk_176 (dk_at dksJ7_append_3_3 8 rfl rfl)
theorem q134 : (Jvm.Cond.initialized "java/lang/AbstractStringBuilder") ∈ lw_all := lw_g (lw_at lw_m1 10 rfl) rfl
theorem q247 : (Jvm.Cond.instanceMethod ({ cls := "java/lang/AbstractStringBuilder", name := "<init>", desc := "(I)V" } : Jvm.MethodName)) ∈ lw_all := lw_g (lw_at lw_m1 123 rfl) rfl
theorem q248 : (Jvm.Cond.code ({ cls := "java/lang/AbstractStringBuilder", name := "<init>", desc := "(I)V" } : Jvm.MethodName) prog_21_method_2_code (2 : Nat) (Option.none : Option Jvm.ClassFile.FieldType)) ∈ lw_all := lw_g (lw_at lw_m1 124 rfl) rfl
theorem q249 : (Jvm.Cond.methodLink "java/lang/AbstractStringBuilder" (3 : Nat) ({ cls := "java/lang/Object", name := "<init>", desc := "()V" } : Jvm.MethodName)) ∈ lw_all := lw_g (lw_at lw_m1 125 rfl) rfl
theorem q250 : (Jvm.Cond.fieldLink "java/lang/AbstractStringBuilder" (18 : Nat) "java/lang/String" "COMPACT_STRINGS" "Z") ∈ lw_all := lw_g (lw_at lw_m1 126 rfl) rfl
theorem q252 : (Jvm.Cond.methodLink "java/lang/AbstractStringBuilder" (26 : Nat) ({ cls := "java/lang/StringUTF16", name := "newBytesFor", desc := "(I)[B" } : Jvm.MethodName)) ∈ lw_all := lw_g (lw_at lw_m1 128 rfl) rfl
theorem q259 : (Jvm.Cond.fieldLink "java/lang/AbstractStringBuilder" (15 : Nat) "java/lang/AbstractStringBuilder" "value" "[B") ∈ lw_all := lw_g (lw_at lw_m1 135 rfl) rfl
theorem q260 : (Jvm.Cond.fieldLink "java/lang/AbstractStringBuilder" (22 : Nat) "java/lang/AbstractStringBuilder" "coder" "B") ∈ lw_all := lw_g (lw_at lw_m1 136 rfl) rfl
theorem q262 : (Jvm.Cond.fieldLink "java/lang/AbstractStringBuilder" (79 : Nat) "java/lang/AbstractStringBuilder" "count" "I") ∈ lw_all := lw_g (lw_at lw_m1 138 rfl) rfl
theorem q264 : (Jvm.Cond.soleField "java/lang/AbstractStringBuilder" "value") ∈ lw_all := lw_g (lw_at lw_m1 140 rfl) rfl
theorem q266 : (Jvm.Cond.soleField "java/lang/AbstractStringBuilder" "coder") ∈ lw_all := lw_g (lw_at lw_m1 142 rfl) rfl
theorem q268 : (Jvm.Cond.soleField "java/lang/AbstractStringBuilder" "maybeLatin1") ∈ lw_all := lw_g (lw_at lw_m1 144 rfl) rfl
theorem q270 : (Jvm.Cond.soleField "java/lang/AbstractStringBuilder" "count") ∈ lw_all := lw_g (lw_at lw_m1 146 rfl) rfl
theorem q279 : (Jvm.Cond.instanceMethod ({ cls := "java/lang/AbstractStringBuilder", name := "append", desc := "(Ljava/lang/String;)Ljava/lang/AbstractStringBuilder;" } : Jvm.MethodName)) ∈ lw_all := lw_g (lw_at lw_m1 155 rfl) rfl
theorem q280 : (Jvm.Cond.code ({ cls := "java/lang/AbstractStringBuilder", name := "append", desc := "(Ljava/lang/String;)Ljava/lang/AbstractStringBuilder;" } : Jvm.MethodName) prog_21_method_22_code (3 : Nat) (Option.some (Jvm.ClassFile.FieldType.object "java/lang/AbstractStringBuilder"))) ∈ lw_all := lw_g (lw_at lw_m1 156 rfl) rfl
theorem q281 : (Jvm.Cond.methodLink "java/lang/AbstractStringBuilder" (204 : Nat) ({ cls := "java/lang/AbstractStringBuilder", name := "appendNull", desc := "()Ljava/lang/AbstractStringBuilder;" } : Jvm.MethodName)) ∈ lw_all := lw_g (lw_at lw_m1 157 rfl) rfl
theorem q282 : (Jvm.Cond.privateMethod ({ cls := "java/lang/AbstractStringBuilder", name := "appendNull", desc := "()Ljava/lang/AbstractStringBuilder;" } : Jvm.MethodName)) ∈ lw_tbl := lw_at lw_m1 158 rfl
theorem q283 : (Jvm.Cond.instanceMethod ({ cls := "java/lang/AbstractStringBuilder", name := "appendNull", desc := "()Ljava/lang/AbstractStringBuilder;" } : Jvm.MethodName)) ∈ lw_all := lw_g (lw_at lw_m1 159 rfl) rfl
theorem q284 : (Jvm.Cond.code ({ cls := "java/lang/AbstractStringBuilder", name := "appendNull", desc := "()Ljava/lang/AbstractStringBuilder;" } : Jvm.MethodName) prog_21_method_26_code (3 : Nat) (Option.some (Jvm.ClassFile.FieldType.object "java/lang/AbstractStringBuilder"))) ∈ lw_all := lw_g (lw_at lw_m1 160 rfl) rfl
theorem q285 : (Jvm.Cond.methodLink "java/lang/AbstractStringBuilder" (100 : Nat) ({ cls := "java/lang/AbstractStringBuilder", name := "ensureCapacityInternal", desc := "(I)V" } : Jvm.MethodName)) ∈ lw_all := lw_g (lw_at lw_m1 161 rfl) rfl
theorem q286 : (Jvm.Cond.privateMethod ({ cls := "java/lang/AbstractStringBuilder", name := "ensureCapacityInternal", desc := "(I)V" } : Jvm.MethodName)) ∈ lw_tbl := lw_at lw_m1 162 rfl
theorem q287 : (Jvm.Cond.instanceMethod ({ cls := "java/lang/AbstractStringBuilder", name := "ensureCapacityInternal", desc := "(I)V" } : Jvm.MethodName)) ∈ lw_all := lw_g (lw_at lw_m1 163 rfl) rfl
theorem q288 : (Jvm.Cond.code ({ cls := "java/lang/AbstractStringBuilder", name := "ensureCapacityInternal", desc := "(I)V" } : Jvm.MethodName) prog_21_method_9_code (3 : Nat) (Option.none : Option Jvm.ClassFile.FieldType)) ∈ lw_all := lw_g (lw_at lw_m1 164 rfl) rfl
theorem q289 : (Jvm.Cond.methodLink "java/lang/AbstractStringBuilder" (104 : Nat) ({ cls := "java/lang/AbstractStringBuilder", name := "newCapacity", desc := "(I)I" } : Jvm.MethodName)) ∈ lw_all := lw_g (lw_at lw_m1 165 rfl) rfl
theorem q290 : (Jvm.Cond.privateMethod ({ cls := "java/lang/AbstractStringBuilder", name := "newCapacity", desc := "(I)I" } : Jvm.MethodName)) ∈ lw_tbl := lw_at lw_m1 166 rfl
theorem q291 : (Jvm.Cond.instanceMethod ({ cls := "java/lang/AbstractStringBuilder", name := "newCapacity", desc := "(I)I" } : Jvm.MethodName)) ∈ lw_all := lw_g (lw_at lw_m1 167 rfl) rfl
theorem q292 : (Jvm.Cond.code ({ cls := "java/lang/AbstractStringBuilder", name := "newCapacity", desc := "(I)I" } : Jvm.MethodName) prog_21_method_10_code (6 : Nat) (Option.some Jvm.ClassFile.FieldType.int)) ∈ lw_all := lw_g (lw_at lw_m1 168 rfl) rfl
theorem q293 : (Jvm.Cond.methodLink "java/lang/AbstractStringBuilder" (114 : Nat) ({ cls := "jdk/internal/util/ArraysSupport", name := "newLength", desc := "(III)I" } : Jvm.MethodName)) ∈ lw_all := lw_g (lw_at lw_m1 169 rfl) rfl
theorem q303 : (Jvm.Cond.constant "java/lang/AbstractStringBuilder" (39 : Nat) (2147483647 : Int32)) ∈ lw_all := lw_g (lw_at lw_m1 179 rfl) rfl
theorem q304 : (Jvm.Cond.methodLink "java/lang/AbstractStringBuilder" (108 : Nat) ({ cls := "java/util/Arrays", name := "copyOf", desc := "([BI)[B" } : Jvm.MethodName)) ∈ lw_all := lw_g (lw_at lw_m1 180 rfl) rfl
theorem q320 : (Jvm.Cond.methodLink "java/lang/AbstractStringBuilder" (83 : Nat) ({ cls := "java/lang/AbstractStringBuilder", name := "isLatin1", desc := "()Z" } : Jvm.MethodName)) ∈ lw_all := lw_g (lw_at lw_m1 196 rfl) rfl
theorem q321 : (Jvm.Cond.instanceMethod ({ cls := "java/lang/AbstractStringBuilder", name := "isLatin1", desc := "()Z" } : Jvm.MethodName)) ∈ lw_all := lw_g (lw_at lw_m1 197 rfl) rfl
theorem q322 : (Jvm.Cond.sameMethod "java/lang/AbstractStringBuilder" "java/lang/AbstractStringBuilder" "isLatin1" "()Z") ∈ lw_all := lw_g (lw_at lw_m1 198 rfl) rfl
theorem q324 : (Jvm.Cond.code ({ cls := "java/lang/AbstractStringBuilder", name := "isLatin1", desc := "()Z" } : Jvm.MethodName) prog_21_method_68_code (1 : Nat) (Option.some Jvm.ClassFile.FieldType.boolean)) ∈ lw_all := lw_g (lw_at lw_m1 200 rfl) rfl
theorem q325 : (Jvm.Cond.methodLink "java/lang/AbstractStringBuilder" (226 : Nat) ({ cls := "java/lang/StringUTF16", name := "putCharsAt", desc := "([BICCCC)I" } : Jvm.MethodName)) ∈ lw_all := lw_g (lw_at lw_m1 201 rfl) rfl
theorem q351 : (Jvm.Cond.methodLink "java/lang/AbstractStringBuilder" (32 : Nat) ({ cls := "java/lang/String", name := "length", desc := "()I" } : Jvm.MethodName)) ∈ lw_all := lw_g (lw_at lw_m1 227 rfl) rfl
theorem q360 : (Jvm.Cond.methodLink "java/lang/AbstractStringBuilder" (208 : Nat) ({ cls := "java/lang/AbstractStringBuilder", name := "putStringAt", desc := "(ILjava/lang/String;)V" } : Jvm.MethodName)) ∈ lw_all := lw_g (lw_at lw_m1 236 rfl) rfl
theorem q361 : (Jvm.Cond.privateMethod ({ cls := "java/lang/AbstractStringBuilder", name := "putStringAt", desc := "(ILjava/lang/String;)V" } : Jvm.MethodName)) ∈ lw_tbl := lw_at lw_m1 237 rfl
theorem q362 : (Jvm.Cond.instanceMethod ({ cls := "java/lang/AbstractStringBuilder", name := "putStringAt", desc := "(ILjava/lang/String;)V" } : Jvm.MethodName)) ∈ lw_all := lw_g (lw_at lw_m1 238 rfl) rfl
theorem q363 : (Jvm.Cond.code ({ cls := "java/lang/AbstractStringBuilder", name := "putStringAt", desc := "(ILjava/lang/String;)V" } : Jvm.MethodName) prog_21_method_73_code (3 : Nat) (Option.none : Option Jvm.ClassFile.FieldType)) ∈ lw_all := lw_g (lw_at lw_m1 239 rfl) rfl
theorem q364 : (Jvm.Cond.methodLink "java/lang/AbstractStringBuilder" (397 : Nat) ({ cls := "java/lang/AbstractStringBuilder", name := "inflateIfNeededFor", desc := "(Ljava/lang/String;)V" } : Jvm.MethodName)) ∈ lw_all := lw_g (lw_at lw_m2 0 rfl) rfl
theorem q365 : (Jvm.Cond.privateMethod ({ cls := "java/lang/AbstractStringBuilder", name := "inflateIfNeededFor", desc := "(Ljava/lang/String;)V" } : Jvm.MethodName)) ∈ lw_tbl := lw_at lw_m2 1 rfl
theorem q366 : (Jvm.Cond.instanceMethod ({ cls := "java/lang/AbstractStringBuilder", name := "inflateIfNeededFor", desc := "(Ljava/lang/String;)V" } : Jvm.MethodName)) ∈ lw_all := lw_g (lw_at lw_m2 2 rfl) rfl
theorem q367 : (Jvm.Cond.code ({ cls := "java/lang/AbstractStringBuilder", name := "inflateIfNeededFor", desc := "(Ljava/lang/String;)V" } : Jvm.MethodName) prog_21_method_71_code (2 : Nat) (Option.none : Option Jvm.ClassFile.FieldType)) ∈ lw_all := lw_g (lw_at lw_m2 3 rfl) rfl
theorem q368 : (Jvm.Cond.methodLink "java/lang/AbstractStringBuilder" (40 : Nat) ({ cls := "java/lang/String", name := "coder", desc := "()B" } : Jvm.MethodName)) ∈ lw_all := lw_g (lw_at lw_m2 4 rfl) rfl
theorem q369 : (Jvm.Cond.methodLink "java/lang/AbstractStringBuilder" (195 : Nat) ({ cls := "java/lang/AbstractStringBuilder", name := "inflate", desc := "()V" } : Jvm.MethodName)) ∈ lw_all := lw_g (lw_at lw_m2 5 rfl) rfl
theorem q370 : (Jvm.Cond.privateMethod ({ cls := "java/lang/AbstractStringBuilder", name := "inflate", desc := "()V" } : Jvm.MethodName)) ∈ lw_tbl := lw_at lw_m2 6 rfl
theorem q371 : (Jvm.Cond.instanceMethod ({ cls := "java/lang/AbstractStringBuilder", name := "inflate", desc := "()V" } : Jvm.MethodName)) ∈ lw_all := lw_g (lw_at lw_m2 7 rfl) rfl
theorem q372 : (Jvm.Cond.code ({ cls := "java/lang/AbstractStringBuilder", name := "inflate", desc := "()V" } : Jvm.MethodName) prog_21_method_11_code (2 : Nat) (Option.none : Option Jvm.ClassFile.FieldType)) ∈ lw_all := lw_g (lw_at lw_m2 8 rfl) rfl
theorem q373 : (Jvm.Cond.methodLink "java/lang/AbstractStringBuilder" (125 : Nat) ({ cls := "java/lang/StringLatin1", name := "inflate", desc := "([BI[BII)V" } : Jvm.MethodName)) ∈ lw_all := lw_g (lw_at lw_m2 9 rfl) rfl
theorem q388 : (Jvm.Cond.methodLink "java/lang/AbstractStringBuilder" (399 : Nat) ({ cls := "java/lang/String", name := "getBytes", desc := "([BIB)V" } : Jvm.MethodName)) ∈ lw_all := lw_g (lw_at lw_m2 24 rfl) rfl
theorem q399 : (Jvm.Cond.instanceMethod ({ cls := "java/lang/AbstractStringBuilder", name := "append", desc := "(I)Ljava/lang/AbstractStringBuilder;" } : Jvm.MethodName)) ∈ lw_all := lw_g (lw_at lw_m2 35 rfl) rfl
theorem q400 : (Jvm.Cond.code ({ cls := "java/lang/AbstractStringBuilder", name := "append", desc := "(I)Ljava/lang/AbstractStringBuilder;" } : Jvm.MethodName) prog_21_method_32_code (4 : Nat) (Option.some (Jvm.ClassFile.FieldType.object "java/lang/AbstractStringBuilder"))) ∈ lw_all := lw_g (lw_at lw_m2 36 rfl) rfl
theorem q401 : (Jvm.Cond.methodLink "java/lang/AbstractStringBuilder" (245 : Nat) ({ cls := "java/lang/Integer", name := "stringSize", desc := "(I)I" } : Jvm.MethodName)) ∈ lw_all := lw_g (lw_at lw_m2 37 rfl) rfl
theorem q404 : (Jvm.Cond.methodLink "java/lang/AbstractStringBuilder" (248 : Nat) ({ cls := "java/lang/Integer", name := "getChars", desc := "(II[B)I" } : Jvm.MethodName)) ∈ lw_all := lw_g (lw_at lw_m2 40 rfl) rfl
theorem q411 : (Jvm.Cond.methodLink "java/lang/AbstractStringBuilder" (251 : Nat) ({ cls := "java/lang/StringUTF16", name := "getChars", desc := "(III[B)I" } : Jvm.MethodName)) ∈ lw_all := lw_g (lw_at lw_m2 47 rfl) rfl
theorem q433 : (Jvm.Cond.instanceMethod ({ cls := "java/lang/AbstractStringBuilder", name := "getValue", desc := "()[B" } : Jvm.MethodName)) ∈ lw_all := lw_g (lw_at lw_m2 69 rfl) rfl
theorem q434 : (Jvm.Cond.sameMethod "java/lang/AbstractStringBuilder" "java/lang/AbstractStringBuilder" "getValue" "()[B") ∈ lw_all := lw_g (lw_at lw_m2 70 rfl) rfl
theorem q436 : (Jvm.Cond.code ({ cls := "java/lang/AbstractStringBuilder", name := "getValue", desc := "()[B" } : Jvm.MethodName) prog_21_method_64_code (1 : Nat) (Option.some (Jvm.ClassFile.FieldType.array Jvm.ClassFile.FieldType.byte))) ∈ lw_all := lw_g (lw_at lw_m2 72 rfl) rfl
theorem q438 : (Jvm.Cond.instanceMethod ({ cls := "java/lang/AbstractStringBuilder", name := "length", desc := "()I" } : Jvm.MethodName)) ∈ lw_all := lw_g (lw_at lw_m2 74 rfl) rfl
theorem q439 : (Jvm.Cond.sameMethod "java/lang/AbstractStringBuilder" "java/lang/AbstractStringBuilder" "length" "()I") ∈ lw_all := lw_g (lw_at lw_m2 75 rfl) rfl
theorem q444 : (Jvm.Cond.code ({ cls := "java/lang/AbstractStringBuilder", name := "length", desc := "()I" } : Jvm.MethodName) prog_21_method_6_code (1 : Nat) (Option.some Jvm.ClassFile.FieldType.int)) ∈ lw_all := lw_g (lw_at lw_m2 80 rfl) rfl
theorem q1059 : (Jvm.Cond.instanceMethod ({ cls := "java/lang/AbstractStringBuilder", name := "append", desc := "(C)Ljava/lang/AbstractStringBuilder;" } : Jvm.MethodName)) ∈ lw_all := lw_g (lw_at lw_m4 215 rfl) rfl
theorem q1060 : (Jvm.Cond.code ({ cls := "java/lang/AbstractStringBuilder", name := "append", desc := "(C)Ljava/lang/AbstractStringBuilder;" } : Jvm.MethodName) prog_21_method_31_code (2 : Nat) (Option.some (Jvm.ClassFile.FieldType.object "java/lang/AbstractStringBuilder"))) ∈ lw_all := lw_g (lw_at lw_m4 216 rfl) rfl
theorem q1061 : (Jvm.Cond.methodLink "java/lang/AbstractStringBuilder" (191 : Nat) ({ cls := "java/lang/StringLatin1", name := "canEncode", desc := "(C)Z" } : Jvm.MethodName)) ∈ lw_all := lw_g (lw_at lw_m4 217 rfl) rfl
theorem q1064 : (Jvm.Cond.methodLink "java/lang/AbstractStringBuilder" (197 : Nat) ({ cls := "java/lang/StringUTF16", name := "putCharSB", desc := "([BII)V" } : Jvm.MethodName)) ∈ lw_all := lw_g (lw_at lw_m4 220 rfl) rfl
theorem q2690 : (Jvm.Cond.sameMethod "java/lang/AbstractStringBuilder" "java/lang/AbstractStringBuilder" "append" "(Ljava/lang/String;)Ljava/lang/AbstractStringBuilder;") ∈ lw_all := lw_g (lw_at lw_m11 166 rfl) rfl
theorem q2691 : (Jvm.Cond.sameMethod "java/lang/AbstractStringBuilder" "java/lang/AbstractStringBuilder" "appendNull" "()Ljava/lang/AbstractStringBuilder;") ∈ lw_all := lw_g (lw_at lw_m11 167 rfl) rfl
theorem q2692 : (Jvm.Cond.sameMethod "java/lang/AbstractStringBuilder" "java/lang/AbstractStringBuilder" "ensureCapacityInternal" "(I)V") ∈ lw_all := lw_g (lw_at lw_m11 168 rfl) rfl
theorem q2693 : (Jvm.Cond.sameMethod "java/lang/AbstractStringBuilder" "java/lang/AbstractStringBuilder" "newCapacity" "(I)I") ∈ lw_all := lw_g (lw_at lw_m11 169 rfl) rfl
theorem q2694 : (Jvm.Cond.sameMethod "java/lang/AbstractStringBuilder" "java/lang/AbstractStringBuilder" "putStringAt" "(ILjava/lang/String;)V") ∈ lw_all := lw_g (lw_at lw_m11 170 rfl) rfl
theorem q2695 : (Jvm.Cond.sameMethod "java/lang/AbstractStringBuilder" "java/lang/AbstractStringBuilder" "inflateIfNeededFor" "(Ljava/lang/String;)V") ∈ lw_all := lw_g (lw_at lw_m11 171 rfl) rfl
theorem q2696 : (Jvm.Cond.sameMethod "java/lang/AbstractStringBuilder" "java/lang/AbstractStringBuilder" "inflate" "()V") ∈ lw_all := lw_g (lw_at lw_m11 172 rfl) rfl
theorem q2697 : (Jvm.Cond.sameMethod "java/lang/AbstractStringBuilder" "java/lang/AbstractStringBuilder" "append" "(I)Ljava/lang/AbstractStringBuilder;") ∈ lw_all := lw_g (lw_at lw_m11 173 rfl) rfl
theorem q2699 : (Jvm.Cond.sameMethod "java/lang/AbstractStringBuilder" "java/lang/AbstractStringBuilder" "append" "(C)Ljava/lang/AbstractStringBuilder;") ∈ lw_all := lw_g (lw_at lw_m11 175 rfl) rfl

abbrev cJ8_init : ByteArray := prog_39_method_1_code
def yJ8_init : MethodName := ⟨RJ8, "<init>", "()V"⟩
def dkwJ8_init_0 : List UInt8 := [42, 16, 16, 183, 0, 1, 177]
abbrev dktJ8_init_0 : List UInt8 := dkwJ8_init_0 ++ []
theorem dksJ8_init_0 : cJ8_init.data.toList.drop 0 = dktJ8_init_0 := by decide +kernel
theorem dJ8_init_0 : decode cJ8_init 0 = .ok (.aload_n 0, 1) := dk_42 (dk_at dksJ8_init_0 0 rfl rfl)
theorem dJ8_init_1 : decode cJ8_init 1 = .ok (.bipush 16, 2) := dk_16 16 (dk_at dksJ8_init_0 1 rfl rfl)
theorem dJ8_init_3 : decode cJ8_init 3 = .ok (.invokespecial 1, 3) := dk_183 0 1 (dk_at dksJ8_init_0 3 rfl rfl)
theorem dJ8_init_6 : decode cJ8_init 6 = .ok (.return_, 1) := dk_177 (dk_at dksJ8_init_0 6 rfl rfl)
abbrev cJ8_append : ByteArray := prog_39_method_7_code
def yJ8_append : MethodName := ⟨RJ8, "append", "(Ljava/lang/String;)Ljava/lang/StringBuilder;"⟩
def dkwJ8_append_0 : List UInt8 := [42, 43, 183, 0, 29, 87, 42, 176]
abbrev dktJ8_append_0 : List UInt8 := dkwJ8_append_0 ++ []
theorem dksJ8_append_0 : cJ8_append.data.toList.drop 0 = dktJ8_append_0 := by decide +kernel
theorem dJ8_append_0 : decode cJ8_append 0 = .ok (.aload_n 0, 1) := dk_42 (dk_at dksJ8_append_0 0 rfl rfl)
theorem dJ8_append_1 : decode cJ8_append 1 = .ok (.aload_n 1, 1) := dk_43 (dk_at dksJ8_append_0 1 rfl rfl)
theorem dJ8_append_2 : decode cJ8_append 2 = .ok (.invokespecial 29, 3) := dk_183 0 29 (dk_at dksJ8_append_0 2 rfl rfl)
theorem dJ8_append_5 : decode cJ8_append 5 = .ok (.pop, 1) := dk_87 (dk_at dksJ8_append_0 5 rfl rfl)
theorem dJ8_append_6 : decode cJ8_append 6 = .ok (.aload_n 0, 1) := dk_42 (dk_at dksJ8_append_0 6 rfl rfl)
theorem dJ8_append_7 : decode cJ8_append 7 = .ok (.areturn, 1) := dk_176 (dk_at dksJ8_append_0 7 rfl rfl)
abbrev cJ8_append_2 : ByteArray := prog_39_method_15_code
def yJ8_append_2 : MethodName := ⟨RJ8, "append", "(I)Ljava/lang/StringBuilder;"⟩
def dkwJ8_append_2_0 : List UInt8 := [42, 27, 183, 0, 53, 87, 42, 176]
abbrev dktJ8_append_2_0 : List UInt8 := dkwJ8_append_2_0 ++ []
theorem dksJ8_append_2_0 : cJ8_append_2.data.toList.drop 0 = dktJ8_append_2_0 := by decide +kernel
theorem dJ8_append_2_0 : decode cJ8_append_2 0 = .ok (.aload_n 0, 1) := dk_42 (dk_at dksJ8_append_2_0 0 rfl rfl)
theorem dJ8_append_2_1 : decode cJ8_append_2 1 = .ok (.iload_n 1, 1) := dk_27 (dk_at dksJ8_append_2_0 1 rfl rfl)
theorem dJ8_append_2_2 : decode cJ8_append_2 2 = .ok (.invokespecial 53, 3) := dk_183 0 53 (dk_at dksJ8_append_2_0 2 rfl rfl)
theorem dJ8_append_2_5 : decode cJ8_append_2 5 = .ok (.pop, 1) := dk_87 (dk_at dksJ8_append_2_0 5 rfl rfl)
theorem dJ8_append_2_6 : decode cJ8_append_2 6 = .ok (.aload_n 0, 1) := dk_42 (dk_at dksJ8_append_2_0 6 rfl rfl)
theorem dJ8_append_2_7 : decode cJ8_append_2 7 = .ok (.areturn, 1) := dk_176 (dk_at dksJ8_append_2_0 7 rfl rfl)
abbrev cJ8_toString : ByteArray := prog_39_method_42_code
def yJ8_toString : MethodName := ⟨RJ8, "toString", "()Ljava/lang/String;"⟩
def dkwJ8_toString_0 : List UInt8 := [187, 0, 18, 89, 42, 183, 0, 137, 176]
abbrev dktJ8_toString_0 : List UInt8 := dkwJ8_toString_0 ++ []
theorem dksJ8_toString_0 : cJ8_toString.data.toList.drop 0 = dktJ8_toString_0 := by decide +kernel
theorem dJ8_toString_0 : decode cJ8_toString 0 = .ok (.new 18, 3) := dk_187 0 18 (dk_at dksJ8_toString_0 0 rfl rfl)
theorem dJ8_toString_3 : decode cJ8_toString 3 = .ok (.dup, 1) := dk_89 (dk_at dksJ8_toString_0 3 rfl rfl)
theorem dJ8_toString_4 : decode cJ8_toString 4 = .ok (.aload_n 0, 1) := dk_42 (dk_at dksJ8_toString_0 4 rfl rfl)
theorem dJ8_toString_5 : decode cJ8_toString 5 = .ok (.invokespecial 137, 3) := dk_183 0 137 (dk_at dksJ8_toString_0 5 rfl rfl)
theorem dJ8_toString_8 : decode cJ8_toString 8 = .ok (.areturn, 1) := dk_176 (dk_at dksJ8_toString_0 8 rfl rfl)
abbrev cJ8_length : ByteArray := prog_39_method_93_code
def yJ8_length : MethodName := ⟨RJ8, "length", "()I"⟩
theorem dJ8_length_0 : decode cJ8_length 0 = .ok (.aload_n 0, 1) := by decide +kernel
theorem dJ8_length_1 : decode cJ8_length 1 = .ok (.invokespecial 343, 3) := by decide +kernel
theorem dJ8_length_4 : decode cJ8_length 4 = .ok (.ireturn, 1) := by decide +kernel
abbrev cJ8_append_3 : ByteArray := prog_39_method_14_code
def yJ8_append_3 : MethodName := ⟨RJ8, "append", "(C)Ljava/lang/StringBuilder;"⟩
def dkwJ8_append_3_0 : List UInt8 := [42, 27, 183, 0, 50, 87, 42, 176]
abbrev dktJ8_append_3_0 : List UInt8 := dkwJ8_append_3_0 ++ []
theorem dksJ8_append_3_0 : cJ8_append_3.data.toList.drop 0 = dktJ8_append_3_0 := by decide +kernel
theorem dJ8_append_3_0 : decode cJ8_append_3 0 = .ok (.aload_n 0, 1) := dk_42 (dk_at dksJ8_append_3_0 0 rfl rfl)
theorem dJ8_append_3_1 : decode cJ8_append_3 1 = .ok (.iload_n 1, 1) := dk_27 (dk_at dksJ8_append_3_0 1 rfl rfl)
theorem dJ8_append_3_2 : decode cJ8_append_3 2 = .ok (.invokespecial 50, 3) := dk_183 0 50 (dk_at dksJ8_append_3_0 2 rfl rfl)
theorem dJ8_append_3_5 : decode cJ8_append_3 5 = .ok (.pop, 1) := dk_87 (dk_at dksJ8_append_3_0 5 rfl rfl)
theorem dJ8_append_3_6 : decode cJ8_append_3 6 = .ok (.aload_n 0, 1) := dk_42 (dk_at dksJ8_append_3_0 6 rfl rfl)
theorem dJ8_append_3_7 : decode cJ8_append_3 7 = .ok (.areturn, 1) := dk_176 (dk_at dksJ8_append_3_0 7 rfl rfl)
theorem q135 : (Jvm.Cond.initialized "java/lang/StringBuilder") ∈ lw_all := lw_g (lw_at lw_m1 11 rfl) rfl
theorem q242 : (Jvm.Cond.instantiable "java/lang/StringBuilder" (4 : Nat)) ∈ lw_all := lw_g (lw_at lw_m1 118 rfl) rfl
theorem q244 : (Jvm.Cond.instanceMethod ({ cls := "java/lang/StringBuilder", name := "<init>", desc := "()V" } : Jvm.MethodName)) ∈ lw_all := lw_g (lw_at lw_m1 120 rfl) rfl
theorem q245 : (Jvm.Cond.code ({ cls := "java/lang/StringBuilder", name := "<init>", desc := "()V" } : Jvm.MethodName) prog_39_method_1_code (1 : Nat) (Option.none : Option Jvm.ClassFile.FieldType)) ∈ lw_all := lw_g (lw_at lw_m1 121 rfl) rfl
theorem q246 : (Jvm.Cond.methodLink "java/lang/StringBuilder" (1 : Nat) ({ cls := "java/lang/AbstractStringBuilder", name := "<init>", desc := "(I)V" } : Jvm.MethodName)) ∈ lw_all := lw_g (lw_at lw_m1 122 rfl) rfl
theorem q263 : (Jvm.Cond.lays "java/lang/StringBuilder" "java/lang/AbstractStringBuilder" "value" "[B") ∈ lw_all := lw_g (lw_at lw_m1 139 rfl) rfl
theorem q265 : (Jvm.Cond.lays "java/lang/StringBuilder" "java/lang/AbstractStringBuilder" "coder" "B") ∈ lw_all := lw_g (lw_at lw_m1 141 rfl) rfl
theorem q267 : (Jvm.Cond.lays "java/lang/StringBuilder" "java/lang/AbstractStringBuilder" "maybeLatin1" "Z") ∈ lw_all := lw_g (lw_at lw_m1 143 rfl) rfl
theorem q269 : (Jvm.Cond.lays "java/lang/StringBuilder" "java/lang/AbstractStringBuilder" "count" "I") ∈ lw_all := lw_g (lw_at lw_m1 145 rfl) rfl
theorem q271 : (Jvm.Cond.superclass "java/lang/StringBuilder" "java/lang/AbstractStringBuilder") ∈ lw_all := lw_g (lw_at lw_m1 147 rfl) rfl
theorem q275 : (Jvm.Cond.instanceMethod ({ cls := "java/lang/StringBuilder", name := "append", desc := "(Ljava/lang/String;)Ljava/lang/StringBuilder;" } : Jvm.MethodName)) ∈ lw_all := lw_g (lw_at lw_m1 151 rfl) rfl
theorem q276 : (Jvm.Cond.selects "java/lang/StringBuilder" ({ cls := "java/lang/StringBuilder", name := "append", desc := "(Ljava/lang/String;)Ljava/lang/StringBuilder;" } : Jvm.MethodName) ({ cls := "java/lang/StringBuilder", name := "append", desc := "(Ljava/lang/String;)Ljava/lang/StringBuilder;" } : Jvm.MethodName)) ∈ lw_all := lw_g (lw_at lw_m1 152 rfl) rfl
theorem q277 : (Jvm.Cond.code ({ cls := "java/lang/StringBuilder", name := "append", desc := "(Ljava/lang/String;)Ljava/lang/StringBuilder;" } : Jvm.MethodName) prog_39_method_7_code (2 : Nat) (Option.some (Jvm.ClassFile.FieldType.object "java/lang/StringBuilder"))) ∈ lw_all := lw_g (lw_at lw_m1 153 rfl) rfl
theorem q278 : (Jvm.Cond.methodLink "java/lang/StringBuilder" (29 : Nat) ({ cls := "java/lang/AbstractStringBuilder", name := "append", desc := "(Ljava/lang/String;)Ljava/lang/AbstractStringBuilder;" } : Jvm.MethodName)) ∈ lw_all := lw_g (lw_at lw_m1 154 rfl) rfl
theorem q323 : (Jvm.Cond.selects "java/lang/StringBuilder" ({ cls := "java/lang/AbstractStringBuilder", name := "isLatin1", desc := "()Z" } : Jvm.MethodName) ({ cls := "java/lang/AbstractStringBuilder", name := "isLatin1", desc := "()Z" } : Jvm.MethodName)) ∈ lw_all := lw_g (lw_at lw_m1 199 rfl) rfl
theorem q395 : (Jvm.Cond.instanceMethod ({ cls := "java/lang/StringBuilder", name := "append", desc := "(I)Ljava/lang/StringBuilder;" } : Jvm.MethodName)) ∈ lw_all := lw_g (lw_at lw_m2 31 rfl) rfl
theorem q396 : (Jvm.Cond.selects "java/lang/StringBuilder" ({ cls := "java/lang/StringBuilder", name := "append", desc := "(I)Ljava/lang/StringBuilder;" } : Jvm.MethodName) ({ cls := "java/lang/StringBuilder", name := "append", desc := "(I)Ljava/lang/StringBuilder;" } : Jvm.MethodName)) ∈ lw_all := lw_g (lw_at lw_m2 32 rfl) rfl
theorem q397 : (Jvm.Cond.code ({ cls := "java/lang/StringBuilder", name := "append", desc := "(I)Ljava/lang/StringBuilder;" } : Jvm.MethodName) prog_39_method_15_code (2 : Nat) (Option.some (Jvm.ClassFile.FieldType.object "java/lang/StringBuilder"))) ∈ lw_all := lw_g (lw_at lw_m2 33 rfl) rfl
theorem q398 : (Jvm.Cond.methodLink "java/lang/StringBuilder" (53 : Nat) ({ cls := "java/lang/AbstractStringBuilder", name := "append", desc := "(I)Ljava/lang/AbstractStringBuilder;" } : Jvm.MethodName)) ∈ lw_all := lw_g (lw_at lw_m2 34 rfl) rfl
theorem q420 : (Jvm.Cond.instanceMethod ({ cls := "java/lang/StringBuilder", name := "toString", desc := "()Ljava/lang/String;" } : Jvm.MethodName)) ∈ lw_all := lw_g (lw_at lw_m2 56 rfl) rfl
theorem q421 : (Jvm.Cond.selects "java/lang/StringBuilder" ({ cls := "java/lang/StringBuilder", name := "toString", desc := "()Ljava/lang/String;" } : Jvm.MethodName) ({ cls := "java/lang/StringBuilder", name := "toString", desc := "()Ljava/lang/String;" } : Jvm.MethodName)) ∈ lw_all := lw_g (lw_at lw_m2 57 rfl) rfl
theorem q422 : (Jvm.Cond.code ({ cls := "java/lang/StringBuilder", name := "toString", desc := "()Ljava/lang/String;" } : Jvm.MethodName) prog_39_method_42_code (1 : Nat) (Option.some (Jvm.ClassFile.FieldType.object "java/lang/String"))) ∈ lw_all := lw_g (lw_at lw_m2 58 rfl) rfl
theorem q423 : (Jvm.Cond.classLink "java/lang/StringBuilder" (18 : Nat) "java/lang/String") ∈ lw_all := lw_g (lw_at lw_m2 59 rfl) rfl
theorem q425 : (Jvm.Cond.methodLink "java/lang/StringBuilder" (137 : Nat) ({ cls := "java/lang/String", name := "<init>", desc := "(Ljava/lang/StringBuilder;)V" } : Jvm.MethodName)) ∈ lw_all := lw_g (lw_at lw_m2 61 rfl) rfl
theorem q435 : (Jvm.Cond.selects "java/lang/StringBuilder" ({ cls := "java/lang/AbstractStringBuilder", name := "getValue", desc := "()[B" } : Jvm.MethodName) ({ cls := "java/lang/AbstractStringBuilder", name := "getValue", desc := "()[B" } : Jvm.MethodName)) ∈ lw_all := lw_g (lw_at lw_m2 71 rfl) rfl
theorem q440 : (Jvm.Cond.selects "java/lang/StringBuilder" ({ cls := "java/lang/AbstractStringBuilder", name := "length", desc := "()I" } : Jvm.MethodName) ({ cls := "java/lang/StringBuilder", name := "length", desc := "()I" } : Jvm.MethodName)) ∈ lw_all := lw_g (lw_at lw_m2 76 rfl) rfl
theorem q441 : (Jvm.Cond.instanceMethod ({ cls := "java/lang/StringBuilder", name := "length", desc := "()I" } : Jvm.MethodName)) ∈ lw_all := lw_g (lw_at lw_m2 77 rfl) rfl
theorem q442 : (Jvm.Cond.code ({ cls := "java/lang/StringBuilder", name := "length", desc := "()I" } : Jvm.MethodName) prog_39_method_93_code (1 : Nat) (Option.some Jvm.ClassFile.FieldType.int)) ∈ lw_all := lw_g (lw_at lw_m2 78 rfl) rfl
theorem q443 : (Jvm.Cond.methodLink "java/lang/StringBuilder" (343 : Nat) ({ cls := "java/lang/AbstractStringBuilder", name := "length", desc := "()I" } : Jvm.MethodName)) ∈ lw_all := lw_g (lw_at lw_m2 79 rfl) rfl
theorem q1055 : (Jvm.Cond.instanceMethod ({ cls := "java/lang/StringBuilder", name := "append", desc := "(C)Ljava/lang/StringBuilder;" } : Jvm.MethodName)) ∈ lw_all := lw_g (lw_at lw_m4 211 rfl) rfl
theorem q1056 : (Jvm.Cond.selects "java/lang/StringBuilder" ({ cls := "java/lang/StringBuilder", name := "append", desc := "(C)Ljava/lang/StringBuilder;" } : Jvm.MethodName) ({ cls := "java/lang/StringBuilder", name := "append", desc := "(C)Ljava/lang/StringBuilder;" } : Jvm.MethodName)) ∈ lw_all := lw_g (lw_at lw_m4 212 rfl) rfl
theorem q1057 : (Jvm.Cond.code ({ cls := "java/lang/StringBuilder", name := "append", desc := "(C)Ljava/lang/StringBuilder;" } : Jvm.MethodName) prog_39_method_14_code (2 : Nat) (Option.some (Jvm.ClassFile.FieldType.object "java/lang/StringBuilder"))) ∈ lw_all := lw_g (lw_at lw_m4 213 rfl) rfl
theorem q1058 : (Jvm.Cond.methodLink "java/lang/StringBuilder" (50 : Nat) ({ cls := "java/lang/AbstractStringBuilder", name := "append", desc := "(C)Ljava/lang/AbstractStringBuilder;" } : Jvm.MethodName)) ∈ lw_all := lw_g (lw_at lw_m4 214 rfl) rfl
theorem q1307 : (Jvm.Cond.selects "java/lang/StringBuilder" ({ cls := "java/lang/Object", name := "getClass", desc := "()Ljava/lang/Class;" } : Jvm.MethodName) ({ cls := "java/lang/Object", name := "getClass", desc := "()Ljava/lang/Class;" } : Jvm.MethodName)) ∈ lw_all := lw_g (lw_at lw_m5 223 rfl) rfl
theorem q2698 : (Jvm.Cond.selects "java/lang/StringBuilder" ({ cls := "java/lang/StringBuilder", name := "length", desc := "()I" } : Jvm.MethodName) ({ cls := "java/lang/StringBuilder", name := "length", desc := "()I" } : Jvm.MethodName)) ∈ lw_all := lw_g (lw_at lw_m11 174 rfl) rfl
theorem q2713 : (Jvm.Cond.castable "java/lang/StringBuilder" "java/lang/Object") ∈ lw_tbl := lw_at lw_m11 189 rfl

abbrev cJ9_checkBoundsBeginEnd : ByteArray := prog_38_method_158_code
def yJ9_checkBoundsBeginEnd : MethodName := ⟨RJ9, "checkBoundsBeginEnd", "(III)V"⟩
def dkwJ9_checkBoundsBeginEnd_0 : List UInt8 := [26, 27, 28, 178, 4, 29, 184, 4, 38, 87, 177]
abbrev dktJ9_checkBoundsBeginEnd_0 : List UInt8 := dkwJ9_checkBoundsBeginEnd_0 ++ []
theorem dksJ9_checkBoundsBeginEnd_0 : cJ9_checkBoundsBeginEnd.data.toList.drop 0 = dktJ9_checkBoundsBeginEnd_0 := by decide +kernel
theorem dJ9_checkBoundsBeginEnd_0 : decode cJ9_checkBoundsBeginEnd 0 = .ok (.iload_n 0, 1) := dk_26 (dk_at dksJ9_checkBoundsBeginEnd_0 0 rfl rfl)
theorem dJ9_checkBoundsBeginEnd_1 : decode cJ9_checkBoundsBeginEnd 1 = .ok (.iload_n 1, 1) := dk_27 (dk_at dksJ9_checkBoundsBeginEnd_0 1 rfl rfl)
theorem dJ9_checkBoundsBeginEnd_2 : decode cJ9_checkBoundsBeginEnd 2 = .ok (.iload_n 2, 1) := dk_28 (dk_at dksJ9_checkBoundsBeginEnd_0 2 rfl rfl)
theorem dJ9_checkBoundsBeginEnd_3 : decode cJ9_checkBoundsBeginEnd 3 = .ok (.getstatic 1053, 3) := dk_178 4 29 (dk_at dksJ9_checkBoundsBeginEnd_0 3 rfl rfl)
theorem dJ9_checkBoundsBeginEnd_6 : decode cJ9_checkBoundsBeginEnd 6 = .ok (.invokestatic 1062, 3) := dk_184 4 38 (dk_at dksJ9_checkBoundsBeginEnd_0 6 rfl rfl)
theorem dJ9_checkBoundsBeginEnd_9 : decode cJ9_checkBoundsBeginEnd 9 = .ok (.pop, 1) := dk_87 (dk_at dksJ9_checkBoundsBeginEnd_0 9 rfl rfl)
theorem dJ9_checkBoundsBeginEnd_10 : decode cJ9_checkBoundsBeginEnd 10 = .ok (.return_, 1) := dk_177 (dk_at dksJ9_checkBoundsBeginEnd_0 10 rfl rfl)
abbrev cJ9_length : ByteArray := prog_38_method_54_code
def yJ9_length : MethodName := ⟨RJ9, "length", "()I"⟩
def dkwJ9_length_0 : List UInt8 := [42, 180, 0, 9, 190, 42, 182, 1, 79, 122, 172]
abbrev dktJ9_length_0 : List UInt8 := dkwJ9_length_0 ++ []
theorem dksJ9_length_0 : cJ9_length.data.toList.drop 0 = dktJ9_length_0 := by decide +kernel
theorem dJ9_length_0 : decode cJ9_length 0 = .ok (.aload_n 0, 1) := dk_42 (dk_at dksJ9_length_0 0 rfl rfl)
theorem dJ9_length_1 : decode cJ9_length 1 = .ok (.getfield 9, 3) := dk_180 0 9 (dk_at dksJ9_length_0 1 rfl rfl)
theorem dJ9_length_4 : decode cJ9_length 4 = .ok (.arraylength, 1) := dk_190 (dk_at dksJ9_length_0 4 rfl rfl)
theorem dJ9_length_5 : decode cJ9_length 5 = .ok (.aload_n 0, 1) := dk_42 (dk_at dksJ9_length_0 5 rfl rfl)
theorem dJ9_length_6 : decode cJ9_length 6 = .ok (.invokevirtual 335, 3) := dk_182 1 79 (dk_at dksJ9_length_0 6 rfl rfl)
theorem dJ9_length_9 : decode cJ9_length 9 = .ok (.ishr, 1) := dk_122 (dk_at dksJ9_length_0 9 rfl rfl)
theorem dJ9_length_10 : decode cJ9_length 10 = .ok (.ireturn, 1) := dk_172 (dk_at dksJ9_length_0 10 rfl rfl)
abbrev cJ9_coder : ByteArray := prog_38_method_152_code
def yJ9_coder : MethodName := ⟨RJ9, "coder", "()B"⟩
def dkwJ9_coder_0 : List UInt8 := [178, 0, 38, 153, 0, 10, 42, 180, 0, 15, 167, 0, 4, 4, 172]
abbrev dktJ9_coder_0 : List UInt8 := dkwJ9_coder_0 ++ []
theorem dksJ9_coder_0 : cJ9_coder.data.toList.drop 0 = dktJ9_coder_0 := by decide +kernel
theorem dJ9_coder_0 : decode cJ9_coder 0 = .ok (.getstatic 38, 3) := dk_178 0 38 (dk_at dksJ9_coder_0 0 rfl rfl)
theorem dJ9_coder_3 : decode cJ9_coder 3 = .ok (.ifCond .eq 10, 3) := dk_153 0 10 (dk_at dksJ9_coder_0 3 rfl rfl)
theorem dJ9_coder_6 : decode cJ9_coder 6 = .ok (.aload_n 0, 1) := dk_42 (dk_at dksJ9_coder_0 6 rfl rfl)
theorem dJ9_coder_7 : decode cJ9_coder 7 = .ok (.getfield 15, 3) := dk_180 0 15 (dk_at dksJ9_coder_0 7 rfl rfl)
theorem dJ9_coder_10 : decode cJ9_coder 10 = .ok (.goto 4, 3) := dk_167 0 4 (dk_at dksJ9_coder_0 10 rfl rfl)
theorem dJ9_coder_13 : decode cJ9_coder 13 = .ok (.iconst 1, 1) := dk_4 (dk_at dksJ9_coder_0 13 rfl rfl)
theorem dJ9_coder_14 : decode cJ9_coder 14 = .ok (.ireturn, 1) := dk_172 (dk_at dksJ9_coder_0 14 rfl rfl)
abbrev cJ9_checkBoundsOffCount : ByteArray := prog_38_method_157_code
def yJ9_checkBoundsOffCount : MethodName := ⟨RJ9, "checkBoundsOffCount", "(III)I"⟩
def dkwJ9_checkBoundsOffCount_0 : List UInt8 := [26, 27, 28, 178, 4, 29, 184, 4, 41, 172]
abbrev dktJ9_checkBoundsOffCount_0 : List UInt8 := dkwJ9_checkBoundsOffCount_0 ++ []
theorem dksJ9_checkBoundsOffCount_0 : cJ9_checkBoundsOffCount.data.toList.drop 0 = dktJ9_checkBoundsOffCount_0 := by decide +kernel
theorem dJ9_checkBoundsOffCount_0 : decode cJ9_checkBoundsOffCount 0 = .ok (.iload_n 0, 1) := dk_26 (dk_at dksJ9_checkBoundsOffCount_0 0 rfl rfl)
theorem dJ9_checkBoundsOffCount_1 : decode cJ9_checkBoundsOffCount 1 = .ok (.iload_n 1, 1) := dk_27 (dk_at dksJ9_checkBoundsOffCount_0 1 rfl rfl)
theorem dJ9_checkBoundsOffCount_2 : decode cJ9_checkBoundsOffCount 2 = .ok (.iload_n 2, 1) := dk_28 (dk_at dksJ9_checkBoundsOffCount_0 2 rfl rfl)
theorem dJ9_checkBoundsOffCount_3 : decode cJ9_checkBoundsOffCount 3 = .ok (.getstatic 1053, 3) := dk_178 4 29 (dk_at dksJ9_checkBoundsOffCount_0 3 rfl rfl)
theorem dJ9_checkBoundsOffCount_6 : decode cJ9_checkBoundsOffCount 6 = .ok (.invokestatic 1065, 3) := dk_184 4 41 (dk_at dksJ9_checkBoundsOffCount_0 6 rfl rfl)
theorem dJ9_checkBoundsOffCount_9 : decode cJ9_checkBoundsOffCount 9 = .ok (.ireturn, 1) := dk_172 (dk_at dksJ9_checkBoundsOffCount_0 9 rfl rfl)
abbrev cJ9_getBytes : ByteArray := prog_38_method_147_code
def yJ9_getBytes : MethodName := ⟨RJ9, "getBytes", "([BIB)V"⟩
def dkwJ9_getBytes_1 : List UInt8 := [184, 0, 212, 167, 0, 18, 42, 180, 0, 9, 3, 43, 28, 42, 180, 0, 9, 190, 184, 0, 106, 177]
abbrev dktJ9_getBytes_1 : List UInt8 := dkwJ9_getBytes_1 ++ []
def dkwJ9_getBytes_0 : List UInt8 := [42, 182, 1, 79, 29, 160, 0, 23, 42, 180, 0, 9, 3, 43, 28, 29, 120, 42, 180, 0, 9, 190]
abbrev dktJ9_getBytes_0 : List UInt8 := dkwJ9_getBytes_0 ++ dktJ9_getBytes_1
theorem dksJ9_getBytes_0 : cJ9_getBytes.data.toList.drop 0 = dktJ9_getBytes_0 := by decide +kernel
theorem dksJ9_getBytes_1 : cJ9_getBytes.data.toList.drop 22 = dktJ9_getBytes_1 := dk_seg dksJ9_getBytes_0 22 rfl rfl
theorem dJ9_getBytes_0 : decode cJ9_getBytes 0 = .ok (.aload_n 0, 1) := dk_42 (dk_at dksJ9_getBytes_0 0 rfl rfl)
theorem dJ9_getBytes_1 : decode cJ9_getBytes 1 = .ok (.invokevirtual 335, 3) := dk_182 1 79 (dk_at dksJ9_getBytes_0 1 rfl rfl)
theorem dJ9_getBytes_4 : decode cJ9_getBytes 4 = .ok (.iload_n 3, 1) := dk_29 (dk_at dksJ9_getBytes_0 4 rfl rfl)
theorem dJ9_getBytes_5 : decode cJ9_getBytes 5 = .ok (.if_icmp .ne 23, 3) := dk_160 0 23 (dk_at dksJ9_getBytes_0 5 rfl rfl)
theorem dJ9_getBytes_8 : decode cJ9_getBytes 8 = .ok (.aload_n 0, 1) := dk_42 (dk_at dksJ9_getBytes_0 8 rfl rfl)
theorem dJ9_getBytes_9 : decode cJ9_getBytes 9 = .ok (.getfield 9, 3) := dk_180 0 9 (dk_at dksJ9_getBytes_0 9 rfl rfl)
theorem dJ9_getBytes_12 : decode cJ9_getBytes 12 = .ok (.iconst 0, 1) := dk_3 (dk_at dksJ9_getBytes_0 12 rfl rfl)
theorem dJ9_getBytes_13 : decode cJ9_getBytes 13 = .ok (.aload_n 1, 1) := dk_43 (dk_at dksJ9_getBytes_0 13 rfl rfl)
theorem dJ9_getBytes_14 : decode cJ9_getBytes 14 = .ok (.iload_n 2, 1) := dk_28 (dk_at dksJ9_getBytes_0 14 rfl rfl)
theorem dJ9_getBytes_15 : decode cJ9_getBytes 15 = .ok (.iload_n 3, 1) := dk_29 (dk_at dksJ9_getBytes_0 15 rfl rfl)
theorem dJ9_getBytes_16 : decode cJ9_getBytes 16 = .ok (.ishl, 1) := dk_120 (dk_at dksJ9_getBytes_0 16 rfl rfl)
theorem dJ9_getBytes_17 : decode cJ9_getBytes 17 = .ok (.aload_n 0, 1) := dk_42 (dk_at dksJ9_getBytes_0 17 rfl rfl)
theorem dJ9_getBytes_18 : decode cJ9_getBytes 18 = .ok (.getfield 9, 3) := dk_180 0 9 (dk_at dksJ9_getBytes_0 18 rfl rfl)
theorem dJ9_getBytes_21 : decode cJ9_getBytes 21 = .ok (.arraylength, 1) := dk_190 (dk_at dksJ9_getBytes_0 21 rfl rfl)
theorem dJ9_getBytes_22 : decode cJ9_getBytes 22 = .ok (.invokestatic 212, 3) := dk_184 0 212 (dk_at dksJ9_getBytes_1 0 rfl rfl)
theorem dJ9_getBytes_25 : decode cJ9_getBytes 25 = .ok (.goto 18, 3) := dk_167 0 18 (dk_at dksJ9_getBytes_1 3 rfl rfl)
theorem dJ9_getBytes_28 : decode cJ9_getBytes 28 = .ok (.aload_n 0, 1) := dk_42 (dk_at dksJ9_getBytes_1 6 rfl rfl)
theorem dJ9_getBytes_29 : decode cJ9_getBytes 29 = .ok (.getfield 9, 3) := dk_180 0 9 (dk_at dksJ9_getBytes_1 7 rfl rfl)
theorem dJ9_getBytes_32 : decode cJ9_getBytes 32 = .ok (.iconst 0, 1) := dk_3 (dk_at dksJ9_getBytes_1 10 rfl rfl)
theorem dJ9_getBytes_33 : decode cJ9_getBytes 33 = .ok (.aload_n 1, 1) := dk_43 (dk_at dksJ9_getBytes_1 11 rfl rfl)
theorem dJ9_getBytes_34 : decode cJ9_getBytes 34 = .ok (.iload_n 2, 1) := dk_28 (dk_at dksJ9_getBytes_1 12 rfl rfl)
theorem dJ9_getBytes_35 : decode cJ9_getBytes 35 = .ok (.aload_n 0, 1) := dk_42 (dk_at dksJ9_getBytes_1 13 rfl rfl)
theorem dJ9_getBytes_36 : decode cJ9_getBytes 36 = .ok (.getfield 9, 3) := dk_180 0 9 (dk_at dksJ9_getBytes_1 14 rfl rfl)
theorem dJ9_getBytes_39 : decode cJ9_getBytes 39 = .ok (.arraylength, 1) := dk_190 (dk_at dksJ9_getBytes_1 17 rfl rfl)
theorem dJ9_getBytes_40 : decode cJ9_getBytes 40 = .ok (.invokestatic 106, 3) := dk_184 0 106 (dk_at dksJ9_getBytes_1 18 rfl rfl)
theorem dJ9_getBytes_43 : decode cJ9_getBytes 43 = .ok (.return_, 1) := dk_177 (dk_at dksJ9_getBytes_1 21 rfl rfl)
abbrev cJ9_init : ByteArray := prog_38_method_53_code
def yJ9_init : MethodName := ⟨RJ9, "<init>", "(Ljava/lang/StringBuilder;)V"⟩
def dkwJ9_init_0 : List UInt8 := [42, 43, 1, 183, 1, 233, 177]
abbrev dktJ9_init_0 : List UInt8 := dkwJ9_init_0 ++ []
theorem dksJ9_init_0 : cJ9_init.data.toList.drop 0 = dktJ9_init_0 := by decide +kernel
theorem dJ9_init_0 : decode cJ9_init 0 = .ok (.aload_n 0, 1) := dk_42 (dk_at dksJ9_init_0 0 rfl rfl)
theorem dJ9_init_1 : decode cJ9_init 1 = .ok (.aload_n 1, 1) := dk_43 (dk_at dksJ9_init_0 1 rfl rfl)
theorem dJ9_init_2 : decode cJ9_init 2 = .ok (.aconst_null, 1) := dk_1 (dk_at dksJ9_init_0 2 rfl rfl)
theorem dJ9_init_3 : decode cJ9_init 3 = .ok (.invokespecial 489, 3) := dk_183 1 233 (dk_at dksJ9_init_0 3 rfl rfl)
theorem dJ9_init_6 : decode cJ9_init 6 = .ok (.return_, 1) := dk_177 (dk_at dksJ9_init_0 6 rfl rfl)
abbrev cJ9_init_2 : ByteArray := prog_38_method_150_code
def yJ9_init_2 : MethodName := ⟨RJ9, "<init>", "(Ljava/lang/AbstractStringBuilder;Ljava/lang/Void;)V"⟩
def dkwJ9_init_2_4 : List UInt8 := [181, 0, 9, 177]
abbrev dktJ9_init_2_4 : List UInt8 := dkwJ9_init_2_4 ++ []
def dkwJ9_init_2_3 : List UInt8 := [184, 0, 47, 181, 0, 15, 177, 42, 4, 181, 0, 15, 42, 45, 3, 21, 4, 4, 120, 184, 0, 54]
abbrev dktJ9_init_2_3 : List UInt8 := dkwJ9_init_2_3 ++ dktJ9_init_2_4
def dkwJ9_init_2_2 : List UInt8 := [180, 4, 24, 153, 0, 28, 42, 45, 3, 21, 4, 184, 4, 27, 181, 0, 9, 42, 42, 180, 0, 9, 21, 4]
abbrev dktJ9_init_2_2 : List UInt8 := dkwJ9_init_2_2 ++ dktJ9_init_2_3
def dkwJ9_init_2_1 : List UInt8 := [181, 0, 15, 42, 45, 3, 21, 4, 184, 0, 54, 181, 0, 9, 167, 0, 59, 178, 0, 38, 153, 0, 35, 43]
abbrev dktJ9_init_2_1 : List UInt8 := dkwJ9_init_2_1 ++ dktJ9_init_2_2
def dkwJ9_init_2_0 : List UInt8 := [42, 183, 0, 1, 43, 182, 2, 40, 78, 43, 182, 2, 37, 54, 4, 43, 182, 4, 23, 153, 0, 22, 42, 3]
abbrev dktJ9_init_2_0 : List UInt8 := dkwJ9_init_2_0 ++ dktJ9_init_2_1
theorem dksJ9_init_2_0 : cJ9_init_2.data.toList.drop 0 = dktJ9_init_2_0 := by decide +kernel
theorem dksJ9_init_2_1 : cJ9_init_2.data.toList.drop 24 = dktJ9_init_2_1 := dk_seg dksJ9_init_2_0 24 rfl rfl
theorem dksJ9_init_2_2 : cJ9_init_2.data.toList.drop 48 = dktJ9_init_2_2 := dk_seg dksJ9_init_2_1 24 rfl rfl
theorem dksJ9_init_2_3 : cJ9_init_2.data.toList.drop 72 = dktJ9_init_2_3 := dk_seg dksJ9_init_2_2 24 rfl rfl
theorem dksJ9_init_2_4 : cJ9_init_2.data.toList.drop 94 = dktJ9_init_2_4 := dk_seg dksJ9_init_2_3 22 rfl rfl
theorem dJ9_init_2_0 : decode cJ9_init_2 0 = .ok (.aload_n 0, 1) := dk_42 (dk_at dksJ9_init_2_0 0 rfl rfl)
theorem dJ9_init_2_1 : decode cJ9_init_2 1 = .ok (.invokespecial 1, 3) := dk_183 0 1 (dk_at dksJ9_init_2_0 1 rfl rfl)
theorem dJ9_init_2_4 : decode cJ9_init_2 4 = .ok (.aload_n 1, 1) := dk_43 (dk_at dksJ9_init_2_0 4 rfl rfl)
theorem dJ9_init_2_5 : decode cJ9_init_2 5 = .ok (.invokevirtual 552, 3) := dk_182 2 40 (dk_at dksJ9_init_2_0 5 rfl rfl)
theorem dJ9_init_2_8 : decode cJ9_init_2 8 = .ok (.astore_n 3, 1) := dk_78 (dk_at dksJ9_init_2_0 8 rfl rfl)
theorem dJ9_init_2_9 : decode cJ9_init_2 9 = .ok (.aload_n 1, 1) := dk_43 (dk_at dksJ9_init_2_0 9 rfl rfl)
theorem dJ9_init_2_10 : decode cJ9_init_2 10 = .ok (.invokevirtual 549, 3) := dk_182 2 37 (dk_at dksJ9_init_2_0 10 rfl rfl)
theorem dJ9_init_2_13 : decode cJ9_init_2 13 = .ok (.istore 4, 2) := dk_54 4 (dk_at dksJ9_init_2_0 13 rfl rfl)
theorem dJ9_init_2_15 : decode cJ9_init_2 15 = .ok (.aload_n 1, 1) := dk_43 (dk_at dksJ9_init_2_0 15 rfl rfl)
theorem dJ9_init_2_16 : decode cJ9_init_2 16 = .ok (.invokevirtual 1047, 3) := dk_182 4 23 (dk_at dksJ9_init_2_0 16 rfl rfl)
theorem dJ9_init_2_19 : decode cJ9_init_2 19 = .ok (.ifCond .eq 22, 3) := dk_153 0 22 (dk_at dksJ9_init_2_0 19 rfl rfl)
theorem dJ9_init_2_22 : decode cJ9_init_2 22 = .ok (.aload_n 0, 1) := dk_42 (dk_at dksJ9_init_2_0 22 rfl rfl)
theorem dJ9_init_2_23 : decode cJ9_init_2 23 = .ok (.iconst 0, 1) := dk_3 (dk_at dksJ9_init_2_0 23 rfl rfl)
theorem dJ9_init_2_24 : decode cJ9_init_2 24 = .ok (.putfield 15, 3) := dk_181 0 15 (dk_at dksJ9_init_2_1 0 rfl rfl)
theorem dJ9_init_2_27 : decode cJ9_init_2 27 = .ok (.aload_n 0, 1) := dk_42 (dk_at dksJ9_init_2_1 3 rfl rfl)
theorem dJ9_init_2_28 : decode cJ9_init_2 28 = .ok (.aload_n 3, 1) := dk_45 (dk_at dksJ9_init_2_1 4 rfl rfl)
theorem dJ9_init_2_29 : decode cJ9_init_2 29 = .ok (.iconst 0, 1) := dk_3 (dk_at dksJ9_init_2_1 5 rfl rfl)
theorem dJ9_init_2_30 : decode cJ9_init_2 30 = .ok (.iload 4, 2) := dk_21 4 (dk_at dksJ9_init_2_1 6 rfl rfl)
theorem dJ9_init_2_32 : decode cJ9_init_2 32 = .ok (.invokestatic 54, 3) := dk_184 0 54 (dk_at dksJ9_init_2_1 8 rfl rfl)
theorem dJ9_init_2_35 : decode cJ9_init_2 35 = .ok (.putfield 9, 3) := dk_181 0 9 (dk_at dksJ9_init_2_1 11 rfl rfl)
theorem dJ9_init_2_38 : decode cJ9_init_2 38 = .ok (.goto 59, 3) := dk_167 0 59 (dk_at dksJ9_init_2_1 14 rfl rfl)
theorem dJ9_init_2_41 : decode cJ9_init_2 41 = .ok (.getstatic 38, 3) := dk_178 0 38 (dk_at dksJ9_init_2_1 17 rfl rfl)
theorem dJ9_init_2_44 : decode cJ9_init_2 44 = .ok (.ifCond .eq 35, 3) := dk_153 0 35 (dk_at dksJ9_init_2_1 20 rfl rfl)
theorem dJ9_init_2_47 : decode cJ9_init_2 47 = .ok (.aload_n 1, 1) := dk_43 (dk_at dksJ9_init_2_1 23 rfl rfl)
theorem dJ9_init_2_48 : decode cJ9_init_2 48 = .ok (.getfield 1048, 3) := dk_180 4 24 (dk_at dksJ9_init_2_2 0 rfl rfl)
theorem dJ9_init_2_51 : decode cJ9_init_2 51 = .ok (.ifCond .eq 28, 3) := dk_153 0 28 (dk_at dksJ9_init_2_2 3 rfl rfl)
theorem dJ9_init_2_54 : decode cJ9_init_2 54 = .ok (.aload_n 0, 1) := dk_42 (dk_at dksJ9_init_2_2 6 rfl rfl)
theorem dJ9_init_2_55 : decode cJ9_init_2 55 = .ok (.aload_n 3, 1) := dk_45 (dk_at dksJ9_init_2_2 7 rfl rfl)
theorem dJ9_init_2_56 : decode cJ9_init_2 56 = .ok (.iconst 0, 1) := dk_3 (dk_at dksJ9_init_2_2 8 rfl rfl)
theorem dJ9_init_2_57 : decode cJ9_init_2 57 = .ok (.iload 4, 2) := dk_21 4 (dk_at dksJ9_init_2_2 9 rfl rfl)
theorem dJ9_init_2_59 : decode cJ9_init_2 59 = .ok (.invokestatic 1051, 3) := dk_184 4 27 (dk_at dksJ9_init_2_2 11 rfl rfl)
theorem dJ9_init_2_62 : decode cJ9_init_2 62 = .ok (.putfield 9, 3) := dk_181 0 9 (dk_at dksJ9_init_2_2 14 rfl rfl)
theorem dJ9_init_2_65 : decode cJ9_init_2 65 = .ok (.aload_n 0, 1) := dk_42 (dk_at dksJ9_init_2_2 17 rfl rfl)
theorem dJ9_init_2_66 : decode cJ9_init_2 66 = .ok (.aload_n 0, 1) := dk_42 (dk_at dksJ9_init_2_2 18 rfl rfl)
theorem dJ9_init_2_67 : decode cJ9_init_2 67 = .ok (.getfield 9, 3) := dk_180 0 9 (dk_at dksJ9_init_2_2 19 rfl rfl)
theorem dJ9_init_2_70 : decode cJ9_init_2 70 = .ok (.iload 4, 2) := dk_21 4 (dk_at dksJ9_init_2_2 22 rfl rfl)
theorem dJ9_init_2_72 : decode cJ9_init_2 72 = .ok (.invokestatic 47, 3) := dk_184 0 47 (dk_at dksJ9_init_2_3 0 rfl rfl)
theorem dJ9_init_2_75 : decode cJ9_init_2 75 = .ok (.putfield 15, 3) := dk_181 0 15 (dk_at dksJ9_init_2_3 3 rfl rfl)
theorem dJ9_init_2_78 : decode cJ9_init_2 78 = .ok (.return_, 1) := dk_177 (dk_at dksJ9_init_2_3 6 rfl rfl)
theorem dJ9_init_2_79 : decode cJ9_init_2 79 = .ok (.aload_n 0, 1) := dk_42 (dk_at dksJ9_init_2_3 7 rfl rfl)
theorem dJ9_init_2_80 : decode cJ9_init_2 80 = .ok (.iconst 1, 1) := dk_4 (dk_at dksJ9_init_2_3 8 rfl rfl)
theorem dJ9_init_2_81 : decode cJ9_init_2 81 = .ok (.putfield 15, 3) := dk_181 0 15 (dk_at dksJ9_init_2_3 9 rfl rfl)
theorem dJ9_init_2_84 : decode cJ9_init_2 84 = .ok (.aload_n 0, 1) := dk_42 (dk_at dksJ9_init_2_3 12 rfl rfl)
theorem dJ9_init_2_85 : decode cJ9_init_2 85 = .ok (.aload_n 3, 1) := dk_45 (dk_at dksJ9_init_2_3 13 rfl rfl)
theorem dJ9_init_2_86 : decode cJ9_init_2 86 = .ok (.iconst 0, 1) := dk_3 (dk_at dksJ9_init_2_3 14 rfl rfl)
theorem dJ9_init_2_87 : decode cJ9_init_2 87 = .ok (.iload 4, 2) := dk_21 4 (dk_at dksJ9_init_2_3 15 rfl rfl)
theorem dJ9_init_2_89 : decode cJ9_init_2 89 = .ok (.iconst 1, 1) := dk_4 (dk_at dksJ9_init_2_3 17 rfl rfl)
theorem dJ9_init_2_90 : decode cJ9_init_2 90 = .ok (.ishl, 1) := dk_120 (dk_at dksJ9_init_2_3 18 rfl rfl)
theorem dJ9_init_2_91 : decode cJ9_init_2 91 = .ok (.invokestatic 54, 3) := dk_184 0 54 (dk_at dksJ9_init_2_3 19 rfl rfl)
theorem dJ9_init_2_94 : decode cJ9_init_2 94 = .ok (.putfield 9, 3) := dk_181 0 9 (dk_at dksJ9_init_2_4 0 rfl rfl)
theorem dJ9_init_2_97 : decode cJ9_init_2 97 = .ok (.return_, 1) := dk_177 (dk_at dksJ9_init_2_4 3 rfl rfl)
abbrev cJ9_checkIndex : ByteArray := prog_38_method_155_code
def yJ9_checkIndex : MethodName := ⟨RJ9, "checkIndex", "(II)V"⟩
def dkwJ9_checkIndex_0 : List UInt8 := [26, 27, 178, 4, 29, 184, 4, 35, 87, 177]
abbrev dktJ9_checkIndex_0 : List UInt8 := dkwJ9_checkIndex_0 ++ []
theorem dksJ9_checkIndex_0 : cJ9_checkIndex.data.toList.drop 0 = dktJ9_checkIndex_0 := by decide +kernel
theorem dJ9_checkIndex_0 : decode cJ9_checkIndex 0 = .ok (.iload_n 0, 1) := dk_26 (dk_at dksJ9_checkIndex_0 0 rfl rfl)
theorem dJ9_checkIndex_1 : decode cJ9_checkIndex 1 = .ok (.iload_n 1, 1) := dk_27 (dk_at dksJ9_checkIndex_0 1 rfl rfl)
theorem dJ9_checkIndex_2 : decode cJ9_checkIndex 2 = .ok (.getstatic 1053, 3) := dk_178 4 29 (dk_at dksJ9_checkIndex_0 2 rfl rfl)
theorem dJ9_checkIndex_5 : decode cJ9_checkIndex 5 = .ok (.invokestatic 1059, 3) := dk_184 4 35 (dk_at dksJ9_checkIndex_0 5 rfl rfl)
theorem dJ9_checkIndex_8 : decode cJ9_checkIndex 8 = .ok (.pop, 1) := dk_87 (dk_at dksJ9_checkIndex_0 8 rfl rfl)
theorem dJ9_checkIndex_9 : decode cJ9_checkIndex 9 = .ok (.return_, 1) := dk_177 (dk_at dksJ9_checkIndex_0 9 rfl rfl)
abbrev cJ9_hashCode : ByteArray := prog_38_method_78_code
def yJ9_hashCode : MethodName := ⟨RJ9, "hashCode", "()I"⟩
def dkwJ9_hashCode_2 : List UInt8 := [181, 0, 23, 167, 0, 8, 42, 27, 181, 0, 19, 27, 172]
abbrev dktJ9_hashCode_2 : List UInt8 := dkwJ9_hashCode_2 ++ []
def dkwJ9_hashCode_1 : List UInt8 := [180, 0, 9, 184, 2, 116, 167, 0, 10, 42, 180, 0, 9, 184, 2, 120, 60, 27, 154, 0, 11, 42, 4]
abbrev dktJ9_hashCode_1 : List UInt8 := dkwJ9_hashCode_1 ++ dktJ9_hashCode_2
def dkwJ9_hashCode_0 : List UInt8 := [42, 180, 0, 19, 60, 27, 154, 0, 52, 42, 180, 0, 23, 154, 0, 45, 42, 182, 1, 236, 153, 0, 13, 42]
abbrev dktJ9_hashCode_0 : List UInt8 := dkwJ9_hashCode_0 ++ dktJ9_hashCode_1
theorem dksJ9_hashCode_0 : cJ9_hashCode.data.toList.drop 0 = dktJ9_hashCode_0 := by decide +kernel
theorem dksJ9_hashCode_1 : cJ9_hashCode.data.toList.drop 24 = dktJ9_hashCode_1 := dk_seg dksJ9_hashCode_0 24 rfl rfl
theorem dksJ9_hashCode_2 : cJ9_hashCode.data.toList.drop 47 = dktJ9_hashCode_2 := dk_seg dksJ9_hashCode_1 23 rfl rfl
theorem dJ9_hashCode_0 : decode cJ9_hashCode 0 = .ok (.aload_n 0, 1) := dk_42 (dk_at dksJ9_hashCode_0 0 rfl rfl)
theorem dJ9_hashCode_1 : decode cJ9_hashCode 1 = .ok (.getfield 19, 3) := dk_180 0 19 (dk_at dksJ9_hashCode_0 1 rfl rfl)
theorem dJ9_hashCode_4 : decode cJ9_hashCode 4 = .ok (.istore_n 1, 1) := dk_60 (dk_at dksJ9_hashCode_0 4 rfl rfl)
theorem dJ9_hashCode_5 : decode cJ9_hashCode 5 = .ok (.iload_n 1, 1) := dk_27 (dk_at dksJ9_hashCode_0 5 rfl rfl)
theorem dJ9_hashCode_6 : decode cJ9_hashCode 6 = .ok (.ifCond .ne 52, 3) := dk_154 0 52 (dk_at dksJ9_hashCode_0 6 rfl rfl)
theorem dJ9_hashCode_9 : decode cJ9_hashCode 9 = .ok (.aload_n 0, 1) := dk_42 (dk_at dksJ9_hashCode_0 9 rfl rfl)
theorem dJ9_hashCode_10 : decode cJ9_hashCode 10 = .ok (.getfield 23, 3) := dk_180 0 23 (dk_at dksJ9_hashCode_0 10 rfl rfl)
theorem dJ9_hashCode_13 : decode cJ9_hashCode 13 = .ok (.ifCond .ne 45, 3) := dk_154 0 45 (dk_at dksJ9_hashCode_0 13 rfl rfl)
theorem dJ9_hashCode_16 : decode cJ9_hashCode 16 = .ok (.aload_n 0, 1) := dk_42 (dk_at dksJ9_hashCode_0 16 rfl rfl)
theorem dJ9_hashCode_17 : decode cJ9_hashCode 17 = .ok (.invokevirtual 492, 3) := dk_182 1 236 (dk_at dksJ9_hashCode_0 17 rfl rfl)
theorem dJ9_hashCode_20 : decode cJ9_hashCode 20 = .ok (.ifCond .eq 13, 3) := dk_153 0 13 (dk_at dksJ9_hashCode_0 20 rfl rfl)
theorem dJ9_hashCode_23 : decode cJ9_hashCode 23 = .ok (.aload_n 0, 1) := dk_42 (dk_at dksJ9_hashCode_0 23 rfl rfl)
theorem dJ9_hashCode_24 : decode cJ9_hashCode 24 = .ok (.getfield 9, 3) := dk_180 0 9 (dk_at dksJ9_hashCode_1 0 rfl rfl)
theorem dJ9_hashCode_27 : decode cJ9_hashCode 27 = .ok (.invokestatic 628, 3) := dk_184 2 116 (dk_at dksJ9_hashCode_1 3 rfl rfl)
theorem dJ9_hashCode_30 : decode cJ9_hashCode 30 = .ok (.goto 10, 3) := dk_167 0 10 (dk_at dksJ9_hashCode_1 6 rfl rfl)
theorem dJ9_hashCode_33 : decode cJ9_hashCode 33 = .ok (.aload_n 0, 1) := dk_42 (dk_at dksJ9_hashCode_1 9 rfl rfl)
theorem dJ9_hashCode_34 : decode cJ9_hashCode 34 = .ok (.getfield 9, 3) := dk_180 0 9 (dk_at dksJ9_hashCode_1 10 rfl rfl)
theorem dJ9_hashCode_37 : decode cJ9_hashCode 37 = .ok (.invokestatic 632, 3) := dk_184 2 120 (dk_at dksJ9_hashCode_1 13 rfl rfl)
theorem dJ9_hashCode_40 : decode cJ9_hashCode 40 = .ok (.istore_n 1, 1) := dk_60 (dk_at dksJ9_hashCode_1 16 rfl rfl)
theorem dJ9_hashCode_41 : decode cJ9_hashCode 41 = .ok (.iload_n 1, 1) := dk_27 (dk_at dksJ9_hashCode_1 17 rfl rfl)
theorem dJ9_hashCode_42 : decode cJ9_hashCode 42 = .ok (.ifCond .ne 11, 3) := dk_154 0 11 (dk_at dksJ9_hashCode_1 18 rfl rfl)
theorem dJ9_hashCode_45 : decode cJ9_hashCode 45 = .ok (.aload_n 0, 1) := dk_42 (dk_at dksJ9_hashCode_1 21 rfl rfl)
theorem dJ9_hashCode_46 : decode cJ9_hashCode 46 = .ok (.iconst 1, 1) := dk_4 (dk_at dksJ9_hashCode_1 22 rfl rfl)
theorem dJ9_hashCode_47 : decode cJ9_hashCode 47 = .ok (.putfield 23, 3) := dk_181 0 23 (dk_at dksJ9_hashCode_2 0 rfl rfl)
theorem dJ9_hashCode_50 : decode cJ9_hashCode 50 = .ok (.goto 8, 3) := dk_167 0 8 (dk_at dksJ9_hashCode_2 3 rfl rfl)
theorem dJ9_hashCode_53 : decode cJ9_hashCode 53 = .ok (.aload_n 0, 1) := dk_42 (dk_at dksJ9_hashCode_2 6 rfl rfl)
theorem dJ9_hashCode_54 : decode cJ9_hashCode 54 = .ok (.iload_n 1, 1) := dk_27 (dk_at dksJ9_hashCode_2 7 rfl rfl)
theorem dJ9_hashCode_55 : decode cJ9_hashCode 55 = .ok (.putfield 19, 3) := dk_181 0 19 (dk_at dksJ9_hashCode_2 8 rfl rfl)
theorem dJ9_hashCode_58 : decode cJ9_hashCode 58 = .ok (.iload_n 1, 1) := dk_27 (dk_at dksJ9_hashCode_2 11 rfl rfl)
theorem dJ9_hashCode_59 : decode cJ9_hashCode 59 = .ok (.ireturn, 1) := dk_172 (dk_at dksJ9_hashCode_2 12 rfl rfl)
abbrev cJ9_isLatin1 : ByteArray := prog_38_method_154_code
def yJ9_isLatin1 : MethodName := ⟨RJ9, "isLatin1", "()Z"⟩
def dkwJ9_isLatin1_0 : List UInt8 := [178, 0, 38, 153, 0, 14, 42, 180, 0, 15, 154, 0, 7, 4, 167, 0, 4, 3, 172]
abbrev dktJ9_isLatin1_0 : List UInt8 := dkwJ9_isLatin1_0 ++ []
theorem dksJ9_isLatin1_0 : cJ9_isLatin1.data.toList.drop 0 = dktJ9_isLatin1_0 := by decide +kernel
theorem dJ9_isLatin1_0 : decode cJ9_isLatin1 0 = .ok (.getstatic 38, 3) := dk_178 0 38 (dk_at dksJ9_isLatin1_0 0 rfl rfl)
theorem dJ9_isLatin1_3 : decode cJ9_isLatin1 3 = .ok (.ifCond .eq 14, 3) := dk_153 0 14 (dk_at dksJ9_isLatin1_0 3 rfl rfl)
theorem dJ9_isLatin1_6 : decode cJ9_isLatin1 6 = .ok (.aload_n 0, 1) := dk_42 (dk_at dksJ9_isLatin1_0 6 rfl rfl)
theorem dJ9_isLatin1_7 : decode cJ9_isLatin1 7 = .ok (.getfield 15, 3) := dk_180 0 15 (dk_at dksJ9_isLatin1_0 7 rfl rfl)
theorem dJ9_isLatin1_10 : decode cJ9_isLatin1 10 = .ok (.ifCond .ne 7, 3) := dk_154 0 7 (dk_at dksJ9_isLatin1_0 10 rfl rfl)
theorem dJ9_isLatin1_13 : decode cJ9_isLatin1 13 = .ok (.iconst 1, 1) := dk_4 (dk_at dksJ9_isLatin1_0 13 rfl rfl)
theorem dJ9_isLatin1_14 : decode cJ9_isLatin1 14 = .ok (.goto 4, 3) := dk_167 0 4 (dk_at dksJ9_isLatin1_0 14 rfl rfl)
theorem dJ9_isLatin1_17 : decode cJ9_isLatin1 17 = .ok (.iconst 0, 1) := dk_3 (dk_at dksJ9_isLatin1_0 17 rfl rfl)
theorem dJ9_isLatin1_18 : decode cJ9_isLatin1 18 = .ok (.ireturn, 1) := dk_172 (dk_at dksJ9_isLatin1_0 18 rfl rfl)
abbrev cJ9_equals : ByteArray := prog_38_method_66_code
def yJ9_equals : MethodName := ⟨RJ9, "equals", "(Ljava/lang/Object;)Z"⟩
def dkwJ9_equals_2 : List UInt8 := [184, 2, 29, 153, 0, 7, 4, 167, 0, 4, 3, 172]
abbrev dktJ9_equals_2 : List UInt8 := dkwJ9_equals_2 ++ []
def dkwJ9_equals_1 : List UInt8 := [153, 0, 14, 42, 180, 0, 15, 44, 180, 0, 15, 160, 0, 21, 42, 180, 0, 9, 44, 180, 0, 9]
abbrev dktJ9_equals_1 : List UInt8 := dkwJ9_equals_1 ++ dktJ9_equals_2
def dkwJ9_equals_0 : List UInt8 := [42, 43, 166, 0, 5, 4, 172, 43, 193, 0, 10, 153, 0, 43, 43, 192, 0, 10, 77, 178, 0, 38]
abbrev dktJ9_equals_0 : List UInt8 := dkwJ9_equals_0 ++ dktJ9_equals_1
theorem dksJ9_equals_0 : cJ9_equals.data.toList.drop 0 = dktJ9_equals_0 := by decide +kernel
theorem dksJ9_equals_1 : cJ9_equals.data.toList.drop 22 = dktJ9_equals_1 := dk_seg dksJ9_equals_0 22 rfl rfl
theorem dksJ9_equals_2 : cJ9_equals.data.toList.drop 44 = dktJ9_equals_2 := dk_seg dksJ9_equals_1 22 rfl rfl
theorem dJ9_equals_0 : decode cJ9_equals 0 = .ok (.aload_n 0, 1) := dk_42 (dk_at dksJ9_equals_0 0 rfl rfl)
theorem dJ9_equals_1 : decode cJ9_equals 1 = .ok (.aload_n 1, 1) := dk_43 (dk_at dksJ9_equals_0 1 rfl rfl)
theorem dJ9_equals_2 : decode cJ9_equals 2 = .ok (.if_acmp .ne 5, 3) := dk_166 0 5 (dk_at dksJ9_equals_0 2 rfl rfl)
theorem dJ9_equals_5 : decode cJ9_equals 5 = .ok (.iconst 1, 1) := dk_4 (dk_at dksJ9_equals_0 5 rfl rfl)
theorem dJ9_equals_6 : decode cJ9_equals 6 = .ok (.ireturn, 1) := dk_172 (dk_at dksJ9_equals_0 6 rfl rfl)
theorem dJ9_equals_7 : decode cJ9_equals 7 = .ok (.aload_n 1, 1) := dk_43 (dk_at dksJ9_equals_0 7 rfl rfl)
theorem dJ9_equals_8 : decode cJ9_equals 8 = .ok (.instanceof 10, 3) := dk_193 0 10 (dk_at dksJ9_equals_0 8 rfl rfl)
theorem dJ9_equals_11 : decode cJ9_equals 11 = .ok (.ifCond .eq 43, 3) := dk_153 0 43 (dk_at dksJ9_equals_0 11 rfl rfl)
theorem dJ9_equals_14 : decode cJ9_equals 14 = .ok (.aload_n 1, 1) := dk_43 (dk_at dksJ9_equals_0 14 rfl rfl)
theorem dJ9_equals_15 : decode cJ9_equals 15 = .ok (.checkcast 10, 3) := dk_192 0 10 (dk_at dksJ9_equals_0 15 rfl rfl)
theorem dJ9_equals_18 : decode cJ9_equals 18 = .ok (.astore_n 2, 1) := dk_77 (dk_at dksJ9_equals_0 18 rfl rfl)
theorem dJ9_equals_19 : decode cJ9_equals 19 = .ok (.getstatic 38, 3) := dk_178 0 38 (dk_at dksJ9_equals_0 19 rfl rfl)
theorem dJ9_equals_22 : decode cJ9_equals 22 = .ok (.ifCond .eq 14, 3) := dk_153 0 14 (dk_at dksJ9_equals_1 0 rfl rfl)
theorem dJ9_equals_25 : decode cJ9_equals 25 = .ok (.aload_n 0, 1) := dk_42 (dk_at dksJ9_equals_1 3 rfl rfl)
theorem dJ9_equals_26 : decode cJ9_equals 26 = .ok (.getfield 15, 3) := dk_180 0 15 (dk_at dksJ9_equals_1 4 rfl rfl)
theorem dJ9_equals_29 : decode cJ9_equals 29 = .ok (.aload_n 2, 1) := dk_44 (dk_at dksJ9_equals_1 7 rfl rfl)
theorem dJ9_equals_30 : decode cJ9_equals 30 = .ok (.getfield 15, 3) := dk_180 0 15 (dk_at dksJ9_equals_1 8 rfl rfl)
theorem dJ9_equals_33 : decode cJ9_equals 33 = .ok (.if_icmp .ne 21, 3) := dk_160 0 21 (dk_at dksJ9_equals_1 11 rfl rfl)
theorem dJ9_equals_36 : decode cJ9_equals 36 = .ok (.aload_n 0, 1) := dk_42 (dk_at dksJ9_equals_1 14 rfl rfl)
theorem dJ9_equals_37 : decode cJ9_equals 37 = .ok (.getfield 9, 3) := dk_180 0 9 (dk_at dksJ9_equals_1 15 rfl rfl)
theorem dJ9_equals_40 : decode cJ9_equals 40 = .ok (.aload_n 2, 1) := dk_44 (dk_at dksJ9_equals_1 18 rfl rfl)
theorem dJ9_equals_41 : decode cJ9_equals 41 = .ok (.getfield 9, 3) := dk_180 0 9 (dk_at dksJ9_equals_1 19 rfl rfl)
theorem dJ9_equals_44 : decode cJ9_equals 44 = .ok (.invokestatic 541, 3) := dk_184 2 29 (dk_at dksJ9_equals_2 0 rfl rfl)
theorem dJ9_equals_47 : decode cJ9_equals 47 = .ok (.ifCond .eq 7, 3) := dk_153 0 7 (dk_at dksJ9_equals_2 3 rfl rfl)
theorem dJ9_equals_50 : decode cJ9_equals 50 = .ok (.iconst 1, 1) := dk_4 (dk_at dksJ9_equals_2 6 rfl rfl)
theorem dJ9_equals_51 : decode cJ9_equals 51 = .ok (.goto 4, 3) := dk_167 0 4 (dk_at dksJ9_equals_2 7 rfl rfl)
theorem dJ9_equals_54 : decode cJ9_equals 54 = .ok (.iconst 0, 1) := dk_3 (dk_at dksJ9_equals_2 10 rfl rfl)
theorem dJ9_equals_55 : decode cJ9_equals 55 = .ok (.ireturn, 1) := dk_172 (dk_at dksJ9_equals_2 11 rfl rfl)
abbrev cJ9_charAt : ByteArray := prog_38_method_56_code
def yJ9_charAt : MethodName := ⟨RJ9, "charAt", "(I)C"⟩
def dkwJ9_charAt_1 : List UInt8 := [172]
abbrev dktJ9_charAt_1 : List UInt8 := dkwJ9_charAt_1 ++ []
def dkwJ9_charAt_0 : List UInt8 := [42, 182, 1, 236, 153, 0, 12, 42, 180, 0, 9, 27, 184, 1, 239, 172, 42, 180, 0, 9, 27, 184, 1, 242]
abbrev dktJ9_charAt_0 : List UInt8 := dkwJ9_charAt_0 ++ dktJ9_charAt_1
theorem dksJ9_charAt_0 : cJ9_charAt.data.toList.drop 0 = dktJ9_charAt_0 := by decide +kernel
theorem dksJ9_charAt_1 : cJ9_charAt.data.toList.drop 24 = dktJ9_charAt_1 := dk_seg dksJ9_charAt_0 24 rfl rfl
theorem dJ9_charAt_0 : decode cJ9_charAt 0 = .ok (.aload_n 0, 1) := dk_42 (dk_at dksJ9_charAt_0 0 rfl rfl)
theorem dJ9_charAt_1 : decode cJ9_charAt 1 = .ok (.invokevirtual 492, 3) := dk_182 1 236 (dk_at dksJ9_charAt_0 1 rfl rfl)
theorem dJ9_charAt_4 : decode cJ9_charAt 4 = .ok (.ifCond .eq 12, 3) := dk_153 0 12 (dk_at dksJ9_charAt_0 4 rfl rfl)
theorem dJ9_charAt_7 : decode cJ9_charAt 7 = .ok (.aload_n 0, 1) := dk_42 (dk_at dksJ9_charAt_0 7 rfl rfl)
theorem dJ9_charAt_8 : decode cJ9_charAt 8 = .ok (.getfield 9, 3) := dk_180 0 9 (dk_at dksJ9_charAt_0 8 rfl rfl)
theorem dJ9_charAt_11 : decode cJ9_charAt 11 = .ok (.iload_n 1, 1) := dk_27 (dk_at dksJ9_charAt_0 11 rfl rfl)
theorem dJ9_charAt_12 : decode cJ9_charAt 12 = .ok (.invokestatic 495, 3) := dk_184 1 239 (dk_at dksJ9_charAt_0 12 rfl rfl)
theorem dJ9_charAt_15 : decode cJ9_charAt 15 = .ok (.ireturn, 1) := dk_172 (dk_at dksJ9_charAt_0 15 rfl rfl)
theorem dJ9_charAt_16 : decode cJ9_charAt 16 = .ok (.aload_n 0, 1) := dk_42 (dk_at dksJ9_charAt_0 16 rfl rfl)
theorem dJ9_charAt_17 : decode cJ9_charAt 17 = .ok (.getfield 9, 3) := dk_180 0 9 (dk_at dksJ9_charAt_0 17 rfl rfl)
theorem dJ9_charAt_20 : decode cJ9_charAt 20 = .ok (.iload_n 1, 1) := dk_27 (dk_at dksJ9_charAt_0 20 rfl rfl)
theorem dJ9_charAt_21 : decode cJ9_charAt 21 = .ok (.invokestatic 498, 3) := dk_184 1 242 (dk_at dksJ9_charAt_0 21 rfl rfl)
theorem dJ9_charAt_24 : decode cJ9_charAt 24 = .ok (.ireturn, 1) := dk_172 (dk_at dksJ9_charAt_1 0 rfl rfl)
theorem q136 : (Jvm.Cond.initialized "java/lang/String") ∈ lw_all := lw_g (lw_at lw_m1 12 rfl) rfl
theorem q251 : (Jvm.Cond.laysStatic "java/lang/String" "COMPACT_STRINGS" "Z") ∈ lw_tbl := lw_at lw_m1 127 rfl
theorem q261 : (Jvm.Cond.fieldLink "java/lang/String" (1048 : Nat) "java/lang/AbstractStringBuilder" "maybeLatin1" "Z") ∈ lw_all := lw_g (lw_at lw_m1 137 rfl) rfl
theorem q335 : (Jvm.Cond.static ({ cls := "java/lang/String", name := "checkBoundsBeginEnd", desc := "(III)V" } : Jvm.MethodName)) ∈ lw_all := lw_g (lw_at lw_m1 211 rfl) rfl
theorem q336 : (Jvm.Cond.code ({ cls := "java/lang/String", name := "checkBoundsBeginEnd", desc := "(III)V" } : Jvm.MethodName) prog_38_method_158_code (3 : Nat) (Option.none : Option Jvm.ClassFile.FieldType)) ∈ lw_all := lw_g (lw_at lw_m1 212 rfl) rfl
theorem q337 : (Jvm.Cond.fieldLink "java/lang/String" (1053 : Nat) "jdk/internal/util/Preconditions" "SIOOBE_FORMATTER" "Ljava/util/function/BiFunction;") ∈ lw_all := lw_g (lw_at lw_m1 213 rfl) rfl
theorem q339 : (Jvm.Cond.methodLink "java/lang/String" (1062 : Nat) ({ cls := "jdk/internal/util/Preconditions", name := "checkFromToIndex", desc := "(IIILjava/util/function/BiFunction;)I" } : Jvm.MethodName)) ∈ lw_all := lw_g (lw_at lw_m1 215 rfl) rfl
theorem q352 : (Jvm.Cond.instanceMethod ({ cls := "java/lang/String", name := "length", desc := "()I" } : Jvm.MethodName)) ∈ lw_all := lw_g (lw_at lw_m1 228 rfl) rfl
theorem q353 : (Jvm.Cond.selects "java/lang/String" ({ cls := "java/lang/String", name := "length", desc := "()I" } : Jvm.MethodName) ({ cls := "java/lang/String", name := "length", desc := "()I" } : Jvm.MethodName)) ∈ lw_all := lw_g (lw_at lw_m1 229 rfl) rfl
theorem q354 : (Jvm.Cond.code ({ cls := "java/lang/String", name := "length", desc := "()I" } : Jvm.MethodName) prog_38_method_54_code (1 : Nat) (Option.some Jvm.ClassFile.FieldType.int)) ∈ lw_all := lw_g (lw_at lw_m1 230 rfl) rfl
theorem q355 : (Jvm.Cond.methodLink "java/lang/String" (335 : Nat) ({ cls := "java/lang/String", name := "coder", desc := "()B" } : Jvm.MethodName)) ∈ lw_all := lw_g (lw_at lw_m1 231 rfl) rfl
theorem q356 : (Jvm.Cond.instanceMethod ({ cls := "java/lang/String", name := "coder", desc := "()B" } : Jvm.MethodName)) ∈ lw_all := lw_g (lw_at lw_m1 232 rfl) rfl
theorem q357 : (Jvm.Cond.selects "java/lang/String" ({ cls := "java/lang/String", name := "coder", desc := "()B" } : Jvm.MethodName) ({ cls := "java/lang/String", name := "coder", desc := "()B" } : Jvm.MethodName)) ∈ lw_all := lw_g (lw_at lw_m1 233 rfl) rfl
theorem q358 : (Jvm.Cond.code ({ cls := "java/lang/String", name := "coder", desc := "()B" } : Jvm.MethodName) prog_38_method_152_code (1 : Nat) (Option.some Jvm.ClassFile.FieldType.byte)) ∈ lw_all := lw_g (lw_at lw_m1 234 rfl) rfl
theorem q359 : (Jvm.Cond.fieldLink "java/lang/String" (38 : Nat) "java/lang/String" "COMPACT_STRINGS" "Z") ∈ lw_all := lw_g (lw_at lw_m1 235 rfl) rfl
theorem q383 : (Jvm.Cond.static ({ cls := "java/lang/String", name := "checkBoundsOffCount", desc := "(III)I" } : Jvm.MethodName)) ∈ lw_all := lw_g (lw_at lw_m2 19 rfl) rfl
theorem q384 : (Jvm.Cond.code ({ cls := "java/lang/String", name := "checkBoundsOffCount", desc := "(III)I" } : Jvm.MethodName) prog_38_method_157_code (3 : Nat) (Option.some Jvm.ClassFile.FieldType.int)) ∈ lw_all := lw_g (lw_at lw_m2 20 rfl) rfl
theorem q385 : (Jvm.Cond.methodLink "java/lang/String" (1065 : Nat) ({ cls := "jdk/internal/util/Preconditions", name := "checkFromIndexSize", desc := "(IIILjava/util/function/BiFunction;)I" } : Jvm.MethodName)) ∈ lw_all := lw_g (lw_at lw_m2 21 rfl) rfl
theorem q389 : (Jvm.Cond.instanceMethod ({ cls := "java/lang/String", name := "getBytes", desc := "([BIB)V" } : Jvm.MethodName)) ∈ lw_all := lw_g (lw_at lw_m2 25 rfl) rfl
theorem q390 : (Jvm.Cond.selects "java/lang/String" ({ cls := "java/lang/String", name := "getBytes", desc := "([BIB)V" } : Jvm.MethodName) ({ cls := "java/lang/String", name := "getBytes", desc := "([BIB)V" } : Jvm.MethodName)) ∈ lw_all := lw_g (lw_at lw_m2 26 rfl) rfl
theorem q391 : (Jvm.Cond.code ({ cls := "java/lang/String", name := "getBytes", desc := "([BIB)V" } : Jvm.MethodName) prog_38_method_147_code (4 : Nat) (Option.none : Option Jvm.ClassFile.FieldType)) ∈ lw_all := lw_g (lw_at lw_m2 27 rfl) rfl
theorem q392 : (Jvm.Cond.methodLink "java/lang/String" (212 : Nat) ({ cls := "java/lang/System", name := "arraycopy", desc := "(Ljava/lang/Object;ILjava/lang/Object;II)V" } : Jvm.MethodName)) ∈ lw_all := lw_g (lw_at lw_m2 28 rfl) rfl
theorem q393 : (Jvm.Cond.methodLink "java/lang/String" (106 : Nat) ({ cls := "java/lang/StringLatin1", name := "inflate", desc := "([BI[BII)V" } : Jvm.MethodName)) ∈ lw_all := lw_g (lw_at lw_m2 29 rfl) rfl
theorem q424 : (Jvm.Cond.instantiable "java/lang/String" (4 : Nat)) ∈ lw_all := lw_g (lw_at lw_m2 60 rfl) rfl
theorem q426 : (Jvm.Cond.instanceMethod ({ cls := "java/lang/String", name := "<init>", desc := "(Ljava/lang/StringBuilder;)V" } : Jvm.MethodName)) ∈ lw_all := lw_g (lw_at lw_m2 62 rfl) rfl
theorem q427 : (Jvm.Cond.code ({ cls := "java/lang/String", name := "<init>", desc := "(Ljava/lang/StringBuilder;)V" } : Jvm.MethodName) prog_38_method_53_code (2 : Nat) (Option.none : Option Jvm.ClassFile.FieldType)) ∈ lw_all := lw_g (lw_at lw_m2 63 rfl) rfl
theorem q428 : (Jvm.Cond.methodLink "java/lang/String" (489 : Nat) ({ cls := "java/lang/String", name := "<init>", desc := "(Ljava/lang/AbstractStringBuilder;Ljava/lang/Void;)V" } : Jvm.MethodName)) ∈ lw_all := lw_g (lw_at lw_m2 64 rfl) rfl
theorem q429 : (Jvm.Cond.instanceMethod ({ cls := "java/lang/String", name := "<init>", desc := "(Ljava/lang/AbstractStringBuilder;Ljava/lang/Void;)V" } : Jvm.MethodName)) ∈ lw_all := lw_g (lw_at lw_m2 65 rfl) rfl
theorem q430 : (Jvm.Cond.code ({ cls := "java/lang/String", name := "<init>", desc := "(Ljava/lang/AbstractStringBuilder;Ljava/lang/Void;)V" } : Jvm.MethodName) prog_38_method_150_code (5 : Nat) (Option.none : Option Jvm.ClassFile.FieldType)) ∈ lw_all := lw_g (lw_at lw_m2 66 rfl) rfl
theorem q431 : (Jvm.Cond.methodLink "java/lang/String" (1 : Nat) ({ cls := "java/lang/Object", name := "<init>", desc := "()V" } : Jvm.MethodName)) ∈ lw_all := lw_g (lw_at lw_m2 67 rfl) rfl
theorem q432 : (Jvm.Cond.methodLink "java/lang/String" (552 : Nat) ({ cls := "java/lang/AbstractStringBuilder", name := "getValue", desc := "()[B" } : Jvm.MethodName)) ∈ lw_all := lw_g (lw_at lw_m2 68 rfl) rfl
theorem q437 : (Jvm.Cond.methodLink "java/lang/String" (549 : Nat) ({ cls := "java/lang/AbstractStringBuilder", name := "length", desc := "()I" } : Jvm.MethodName)) ∈ lw_all := lw_g (lw_at lw_m2 73 rfl) rfl
theorem q445 : (Jvm.Cond.methodLink "java/lang/String" (1047 : Nat) ({ cls := "java/lang/AbstractStringBuilder", name := "isLatin1", desc := "()Z" } : Jvm.MethodName)) ∈ lw_all := lw_g (lw_at lw_m2 81 rfl) rfl
theorem q446 : (Jvm.Cond.methodLink "java/lang/String" (54 : Nat) ({ cls := "java/util/Arrays", name := "copyOfRange", desc := "([BII)[B" } : Jvm.MethodName)) ∈ lw_all := lw_g (lw_at lw_m2 82 rfl) rfl
theorem q487 : (Jvm.Cond.methodLink "java/lang/String" (1051 : Nat) ({ cls := "java/lang/StringUTF16", name := "compress", desc := "([BII)[B" } : Jvm.MethodName)) ∈ lw_all := lw_g (lw_at lw_m2 123 rfl) rfl
theorem q497 : (Jvm.Cond.methodLink "java/lang/String" (47 : Nat) ({ cls := "java/lang/StringUTF16", name := "coderFromArrayLen", desc := "([BI)B" } : Jvm.MethodName)) ∈ lw_all := lw_g (lw_at lw_m2 133 rfl) rfl
theorem q500 : (Jvm.Cond.fieldLink "java/lang/String" (9 : Nat) "java/lang/String" "value" "[B") ∈ lw_all := lw_g (lw_at lw_m2 136 rfl) rfl
theorem q501 : (Jvm.Cond.fieldLink "java/lang/String" (15 : Nat) "java/lang/String" "coder" "B") ∈ lw_all := lw_g (lw_at lw_m2 137 rfl) rfl
theorem q502 : (Jvm.Cond.fieldLink "java/lang/String" (19 : Nat) "java/lang/String" "hash" "I") ∈ lw_all := lw_g (lw_at lw_m2 138 rfl) rfl
theorem q503 : (Jvm.Cond.fieldLink "java/lang/String" (23 : Nat) "java/lang/String" "hashIsZero" "Z") ∈ lw_all := lw_g (lw_at lw_m2 139 rfl) rfl
theorem q504 : (Jvm.Cond.laysFinal "java/lang/String" "java/lang/String" "value" "[B") ∈ lw_all := lw_g (lw_at lw_m2 140 rfl) rfl
theorem q505 : (Jvm.Cond.soleField "java/lang/String" "value") ∈ lw_all := lw_g (lw_at lw_m2 141 rfl) rfl
theorem q506 : (Jvm.Cond.laysFinal "java/lang/String" "java/lang/String" "coder" "B") ∈ lw_all := lw_g (lw_at lw_m2 142 rfl) rfl
theorem q507 : (Jvm.Cond.soleField "java/lang/String" "coder") ∈ lw_all := lw_g (lw_at lw_m2 143 rfl) rfl
theorem q508 : (Jvm.Cond.lays "java/lang/String" "java/lang/String" "hash" "I") ∈ lw_all := lw_g (lw_at lw_m2 144 rfl) rfl
theorem q509 : (Jvm.Cond.soleField "java/lang/String" "hash") ∈ lw_all := lw_g (lw_at lw_m2 145 rfl) rfl
theorem q510 : (Jvm.Cond.lays "java/lang/String" "java/lang/String" "hashIsZero" "Z") ∈ lw_all := lw_g (lw_at lw_m2 146 rfl) rfl
theorem q511 : (Jvm.Cond.soleField "java/lang/String" "hashIsZero") ∈ lw_all := lw_g (lw_at lw_m2 147 rfl) rfl
theorem q512 : (Jvm.Cond.superclass "java/lang/String" "java/lang/Object") ∈ lw_all := lw_g (lw_at lw_m2 148 rfl) rfl
theorem q1071 : (Jvm.Cond.static ({ cls := "java/lang/String", name := "checkIndex", desc := "(II)V" } : Jvm.MethodName)) ∈ lw_all := lw_g (lw_at lw_m4 227 rfl) rfl
theorem q1072 : (Jvm.Cond.code ({ cls := "java/lang/String", name := "checkIndex", desc := "(II)V" } : Jvm.MethodName) prog_38_method_155_code (2 : Nat) (Option.none : Option Jvm.ClassFile.FieldType)) ∈ lw_all := lw_g (lw_at lw_m4 228 rfl) rfl
theorem q1073 : (Jvm.Cond.methodLink "java/lang/String" (1059 : Nat) ({ cls := "jdk/internal/util/Preconditions", name := "checkIndex", desc := "(IILjava/util/function/BiFunction;)I" } : Jvm.MethodName)) ∈ lw_all := lw_g (lw_at lw_m4 229 rfl) rfl
theorem q1080 : (Jvm.Cond.instanceMethod ({ cls := "java/lang/String", name := "hashCode", desc := "()I" } : Jvm.MethodName)) ∈ lw_all := lw_g (lw_at lw_m4 236 rfl) rfl
theorem q1081 : (Jvm.Cond.selects "java/lang/String" ({ cls := "java/lang/String", name := "hashCode", desc := "()I" } : Jvm.MethodName) ({ cls := "java/lang/String", name := "hashCode", desc := "()I" } : Jvm.MethodName)) ∈ lw_all := lw_g (lw_at lw_m4 237 rfl) rfl
theorem q1082 : (Jvm.Cond.code ({ cls := "java/lang/String", name := "hashCode", desc := "()I" } : Jvm.MethodName) prog_38_method_78_code (2 : Nat) (Option.some Jvm.ClassFile.FieldType.int)) ∈ lw_all := lw_g (lw_at lw_m4 238 rfl) rfl
theorem q1083 : (Jvm.Cond.methodLink "java/lang/String" (492 : Nat) ({ cls := "java/lang/String", name := "isLatin1", desc := "()Z" } : Jvm.MethodName)) ∈ lw_all := lw_g (lw_at lw_m4 239 rfl) rfl
theorem q1084 : (Jvm.Cond.instanceMethod ({ cls := "java/lang/String", name := "isLatin1", desc := "()Z" } : Jvm.MethodName)) ∈ lw_all := lw_g (lw_at lw_m5 0 rfl) rfl
theorem q1085 : (Jvm.Cond.selects "java/lang/String" ({ cls := "java/lang/String", name := "isLatin1", desc := "()Z" } : Jvm.MethodName) ({ cls := "java/lang/String", name := "isLatin1", desc := "()Z" } : Jvm.MethodName)) ∈ lw_all := lw_g (lw_at lw_m5 1 rfl) rfl
theorem q1086 : (Jvm.Cond.code ({ cls := "java/lang/String", name := "isLatin1", desc := "()Z" } : Jvm.MethodName) prog_38_method_154_code (1 : Nat) (Option.some Jvm.ClassFile.FieldType.boolean)) ∈ lw_all := lw_g (lw_at lw_m5 2 rfl) rfl
theorem q1087 : (Jvm.Cond.methodLink "java/lang/String" (628 : Nat) ({ cls := "java/lang/StringLatin1", name := "hashCode", desc := "([B)I" } : Jvm.MethodName)) ∈ lw_all := lw_g (lw_at lw_m5 3 rfl) rfl
theorem q1136 : (Jvm.Cond.methodLink "java/lang/String" (632 : Nat) ({ cls := "java/lang/StringUTF16", name := "hashCode", desc := "([B)I" } : Jvm.MethodName)) ∈ lw_all := lw_g (lw_at lw_m5 52 rfl) rfl
theorem q1142 : (Jvm.Cond.instanceMethod ({ cls := "java/lang/String", name := "equals", desc := "(Ljava/lang/Object;)Z" } : Jvm.MethodName)) ∈ lw_all := lw_g (lw_at lw_m5 58 rfl) rfl
theorem q1143 : (Jvm.Cond.selects "java/lang/String" ({ cls := "java/lang/String", name := "equals", desc := "(Ljava/lang/Object;)Z" } : Jvm.MethodName) ({ cls := "java/lang/String", name := "equals", desc := "(Ljava/lang/Object;)Z" } : Jvm.MethodName)) ∈ lw_all := lw_g (lw_at lw_m5 59 rfl) rfl
theorem q1144 : (Jvm.Cond.code ({ cls := "java/lang/String", name := "equals", desc := "(Ljava/lang/Object;)Z" } : Jvm.MethodName) prog_38_method_66_code (3 : Nat) (Option.some Jvm.ClassFile.FieldType.boolean)) ∈ lw_all := lw_g (lw_at lw_m5 60 rfl) rfl
theorem q1145 : (Jvm.Cond.classLink "java/lang/String" (10 : Nat) "java/lang/String") ∈ lw_all := lw_g (lw_at lw_m5 61 rfl) rfl
theorem q1146 : (Jvm.Cond.methodLink "java/lang/String" (541 : Nat) ({ cls := "java/lang/StringLatin1", name := "equals", desc := "([B[B)Z" } : Jvm.MethodName)) ∈ lw_all := lw_g (lw_at lw_m5 62 rfl) rfl
theorem q1227 : (Jvm.Cond.instanceMethod ({ cls := "java/lang/String", name := "charAt", desc := "(I)C" } : Jvm.MethodName)) ∈ lw_all := lw_g (lw_at lw_m5 143 rfl) rfl
theorem q1228 : (Jvm.Cond.selects "java/lang/String" ({ cls := "java/lang/String", name := "charAt", desc := "(I)C" } : Jvm.MethodName) ({ cls := "java/lang/String", name := "charAt", desc := "(I)C" } : Jvm.MethodName)) ∈ lw_all := lw_g (lw_at lw_m5 144 rfl) rfl
theorem q1229 : (Jvm.Cond.code ({ cls := "java/lang/String", name := "charAt", desc := "(I)C" } : Jvm.MethodName) prog_38_method_56_code (2 : Nat) (Option.some Jvm.ClassFile.FieldType.char)) ∈ lw_all := lw_g (lw_at lw_m5 145 rfl) rfl
theorem q1230 : (Jvm.Cond.methodLink "java/lang/String" (495 : Nat) ({ cls := "java/lang/StringLatin1", name := "charAt", desc := "([BI)C" } : Jvm.MethodName)) ∈ lw_all := lw_g (lw_at lw_m5 146 rfl) rfl
theorem q1234 : (Jvm.Cond.methodLink "java/lang/String" (498 : Nat) ({ cls := "java/lang/StringUTF16", name := "charAt", desc := "([BI)C" } : Jvm.MethodName)) ∈ lw_all := lw_g (lw_at lw_m5 150 rfl) rfl
theorem q1306 : (Jvm.Cond.selects "java/lang/String" ({ cls := "java/lang/Object", name := "getClass", desc := "()Ljava/lang/Class;" } : Jvm.MethodName) ({ cls := "java/lang/Object", name := "getClass", desc := "()Ljava/lang/Class;" } : Jvm.MethodName)) ∈ lw_all := lw_g (lw_at lw_m5 222 rfl) rfl
theorem q2714 : (Jvm.Cond.castable "java/lang/String" "java/lang/Object") ∈ lw_tbl := lw_at lw_m11 190 rfl

def RJ11 : String := "jdk/internal/util/ArraysSupport"
abbrev cJ11_newLength : ByteArray := prog_57_method_27_code
def yJ11_newLength : MethodName := ⟨RJ11, "newLength", "(III)I"⟩
def dkwJ11_newLength_1 : List UInt8 := [184, 0, 201, 172]
abbrev dktJ11_newLength_1 : List UInt8 := dkwJ11_newLength_1 ++ []
def dkwJ11_newLength_0 : List UInt8 := [26, 27, 28, 184, 0, 194, 96, 62, 3, 29, 162, 0, 11, 29, 18, 200, 163, 0, 5, 29, 172, 26, 27]
abbrev dktJ11_newLength_0 : List UInt8 := dkwJ11_newLength_0 ++ dktJ11_newLength_1
theorem dksJ11_newLength_0 : cJ11_newLength.data.toList.drop 0 = dktJ11_newLength_0 := by decide +kernel
theorem dksJ11_newLength_1 : cJ11_newLength.data.toList.drop 23 = dktJ11_newLength_1 := dk_seg dksJ11_newLength_0 23 rfl rfl
theorem dJ11_newLength_0 : decode cJ11_newLength 0 = .ok (.iload_n 0, 1) := dk_26 (dk_at dksJ11_newLength_0 0 rfl rfl)
theorem dJ11_newLength_1 : decode cJ11_newLength 1 = .ok (.iload_n 1, 1) := dk_27 (dk_at dksJ11_newLength_0 1 rfl rfl)
theorem dJ11_newLength_2 : decode cJ11_newLength 2 = .ok (.iload_n 2, 1) := dk_28 (dk_at dksJ11_newLength_0 2 rfl rfl)
theorem dJ11_newLength_3 : decode cJ11_newLength 3 = .ok (.invokestatic 194, 3) := dk_184 0 194 (dk_at dksJ11_newLength_0 3 rfl rfl)
theorem dJ11_newLength_6 : decode cJ11_newLength 6 = .ok (.iadd, 1) := dk_96 (dk_at dksJ11_newLength_0 6 rfl rfl)
theorem dJ11_newLength_7 : decode cJ11_newLength 7 = .ok (.istore_n 3, 1) := dk_62 (dk_at dksJ11_newLength_0 7 rfl rfl)
theorem dJ11_newLength_8 : decode cJ11_newLength 8 = .ok (.iconst 0, 1) := dk_3 (dk_at dksJ11_newLength_0 8 rfl rfl)
theorem dJ11_newLength_9 : decode cJ11_newLength 9 = .ok (.iload_n 3, 1) := dk_29 (dk_at dksJ11_newLength_0 9 rfl rfl)
theorem dJ11_newLength_10 : decode cJ11_newLength 10 = .ok (.if_icmp .ge 11, 3) := dk_162 0 11 (dk_at dksJ11_newLength_0 10 rfl rfl)
theorem dJ11_newLength_13 : decode cJ11_newLength 13 = .ok (.iload_n 3, 1) := dk_29 (dk_at dksJ11_newLength_0 13 rfl rfl)
theorem dJ11_newLength_14 : decode cJ11_newLength 14 = .ok (.ldc 200, 2) := dk_18 200 (dk_at dksJ11_newLength_0 14 rfl rfl)
theorem dJ11_newLength_16 : decode cJ11_newLength 16 = .ok (.if_icmp .gt 5, 3) := dk_163 0 5 (dk_at dksJ11_newLength_0 16 rfl rfl)
theorem dJ11_newLength_19 : decode cJ11_newLength 19 = .ok (.iload_n 3, 1) := dk_29 (dk_at dksJ11_newLength_0 19 rfl rfl)
theorem dJ11_newLength_20 : decode cJ11_newLength 20 = .ok (.ireturn, 1) := dk_172 (dk_at dksJ11_newLength_0 20 rfl rfl)
theorem dJ11_newLength_21 : decode cJ11_newLength 21 = .ok (.iload_n 0, 1) := dk_26 (dk_at dksJ11_newLength_0 21 rfl rfl)
theorem dJ11_newLength_22 : decode cJ11_newLength 22 = .ok (.iload_n 1, 1) := dk_27 (dk_at dksJ11_newLength_0 22 rfl rfl)
theorem dJ11_newLength_23 : decode cJ11_newLength 23 = .ok (.invokestatic 201, 3) := dk_184 0 201 (dk_at dksJ11_newLength_1 0 rfl rfl)
theorem dJ11_newLength_26 : decode cJ11_newLength 26 = .ok (.ireturn, 1) := dk_172 (dk_at dksJ11_newLength_1 3 rfl rfl)
abbrev cJ11_hugeLength : ByteArray := prog_57_method_28_code
def yJ11_hugeLength : MethodName := ⟨RJ11, "hugeLength", "(II)I"⟩
def dkwJ11_hugeLength_2 : List UInt8 := [191, 28, 18, 200, 163, 0, 6, 18, 200, 172, 28, 172]
abbrev dktJ11_hugeLength_2 : List UInt8 := dkwJ11_hugeLength_2 ++ []
def dkwJ11_hugeLength_1 : List UInt8 := [26, 182, 0, 98, 18, 208, 182, 0, 94, 27, 182, 0, 98, 18, 210, 182, 0, 94, 182, 0, 101, 183, 0, 212]
abbrev dktJ11_hugeLength_1 : List UInt8 := dkwJ11_hugeLength_1 ++ dktJ11_hugeLength_2
def dkwJ11_hugeLength_0 : List UInt8 := [26, 27, 96, 61, 28, 156, 0, 44, 187, 0, 204, 89, 187, 0, 89, 89, 183, 0, 91, 18, 206, 182, 0, 94]
abbrev dktJ11_hugeLength_0 : List UInt8 := dkwJ11_hugeLength_0 ++ dktJ11_hugeLength_1
theorem dksJ11_hugeLength_0 : cJ11_hugeLength.data.toList.drop 0 = dktJ11_hugeLength_0 := by decide +kernel
theorem dksJ11_hugeLength_1 : cJ11_hugeLength.data.toList.drop 24 = dktJ11_hugeLength_1 := dk_seg dksJ11_hugeLength_0 24 rfl rfl
theorem dksJ11_hugeLength_2 : cJ11_hugeLength.data.toList.drop 48 = dktJ11_hugeLength_2 := dk_seg dksJ11_hugeLength_1 24 rfl rfl
theorem dJ11_hugeLength_0 : decode cJ11_hugeLength 0 = .ok (.iload_n 0, 1) := dk_26 (dk_at dksJ11_hugeLength_0 0 rfl rfl)
theorem dJ11_hugeLength_1 : decode cJ11_hugeLength 1 = .ok (.iload_n 1, 1) := dk_27 (dk_at dksJ11_hugeLength_0 1 rfl rfl)
theorem dJ11_hugeLength_2 : decode cJ11_hugeLength 2 = .ok (.iadd, 1) := dk_96 (dk_at dksJ11_hugeLength_0 2 rfl rfl)
theorem dJ11_hugeLength_3 : decode cJ11_hugeLength 3 = .ok (.istore_n 2, 1) := dk_61 (dk_at dksJ11_hugeLength_0 3 rfl rfl)
theorem dJ11_hugeLength_4 : decode cJ11_hugeLength 4 = .ok (.iload_n 2, 1) := dk_28 (dk_at dksJ11_hugeLength_0 4 rfl rfl)
theorem dJ11_hugeLength_5 : decode cJ11_hugeLength 5 = .ok (.ifCond .ge 44, 3) := dk_156 0 44 (dk_at dksJ11_hugeLength_0 5 rfl rfl)
theorem dJ11_hugeLength_8 : decode cJ11_hugeLength 8 = .ok (.new 204, 3) := dk_187 0 204 (dk_at dksJ11_hugeLength_0 8 rfl rfl)
theorem dJ11_hugeLength_11 : decode cJ11_hugeLength 11 = .ok (.dup, 1) := dk_89 (dk_at dksJ11_hugeLength_0 11 rfl rfl)
theorem dJ11_hugeLength_12 : decode cJ11_hugeLength 12 = .ok (.new 89, 3) := dk_187 0 89 (dk_at dksJ11_hugeLength_0 12 rfl rfl)
theorem dJ11_hugeLength_15 : decode cJ11_hugeLength 15 = .ok (.dup, 1) := dk_89 (dk_at dksJ11_hugeLength_0 15 rfl rfl)
theorem dJ11_hugeLength_16 : decode cJ11_hugeLength 16 = .ok (.invokespecial 91, 3) := dk_183 0 91 (dk_at dksJ11_hugeLength_0 16 rfl rfl)
theorem dJ11_hugeLength_19 : decode cJ11_hugeLength 19 = .ok (.ldc 206, 2) := dk_18 206 (dk_at dksJ11_hugeLength_0 19 rfl rfl)
theorem dJ11_hugeLength_21 : decode cJ11_hugeLength 21 = .ok (.invokevirtual 94, 3) := dk_182 0 94 (dk_at dksJ11_hugeLength_0 21 rfl rfl)
theorem dJ11_hugeLength_24 : decode cJ11_hugeLength 24 = .ok (.iload_n 0, 1) := dk_26 (dk_at dksJ11_hugeLength_1 0 rfl rfl)
theorem dJ11_hugeLength_25 : decode cJ11_hugeLength 25 = .ok (.invokevirtual 98, 3) := dk_182 0 98 (dk_at dksJ11_hugeLength_1 1 rfl rfl)
theorem dJ11_hugeLength_28 : decode cJ11_hugeLength 28 = .ok (.ldc 208, 2) := dk_18 208 (dk_at dksJ11_hugeLength_1 4 rfl rfl)
theorem dJ11_hugeLength_30 : decode cJ11_hugeLength 30 = .ok (.invokevirtual 94, 3) := dk_182 0 94 (dk_at dksJ11_hugeLength_1 6 rfl rfl)
theorem dJ11_hugeLength_33 : decode cJ11_hugeLength 33 = .ok (.iload_n 1, 1) := dk_27 (dk_at dksJ11_hugeLength_1 9 rfl rfl)
theorem dJ11_hugeLength_34 : decode cJ11_hugeLength 34 = .ok (.invokevirtual 98, 3) := dk_182 0 98 (dk_at dksJ11_hugeLength_1 10 rfl rfl)
theorem dJ11_hugeLength_37 : decode cJ11_hugeLength 37 = .ok (.ldc 210, 2) := dk_18 210 (dk_at dksJ11_hugeLength_1 13 rfl rfl)
theorem dJ11_hugeLength_39 : decode cJ11_hugeLength 39 = .ok (.invokevirtual 94, 3) := dk_182 0 94 (dk_at dksJ11_hugeLength_1 15 rfl rfl)
theorem dJ11_hugeLength_42 : decode cJ11_hugeLength 42 = .ok (.invokevirtual 101, 3) := dk_182 0 101 (dk_at dksJ11_hugeLength_1 18 rfl rfl)
theorem dJ11_hugeLength_45 : decode cJ11_hugeLength 45 = .ok (.invokespecial 212, 3) := dk_183 0 212 (dk_at dksJ11_hugeLength_1 21 rfl rfl)
theorem dJ11_hugeLength_48 : decode cJ11_hugeLength 48 = .ok (.athrow, 1) := dk_191 (dk_at dksJ11_hugeLength_2 0 rfl rfl)
theorem dJ11_hugeLength_49 : decode cJ11_hugeLength 49 = .ok (.iload_n 2, 1) := dk_28 (dk_at dksJ11_hugeLength_2 1 rfl rfl)
theorem dJ11_hugeLength_50 : decode cJ11_hugeLength 50 = .ok (.ldc 200, 2) := dk_18 200 (dk_at dksJ11_hugeLength_2 2 rfl rfl)
theorem dJ11_hugeLength_52 : decode cJ11_hugeLength 52 = .ok (.if_icmp .gt 6, 3) := dk_163 0 6 (dk_at dksJ11_hugeLength_2 4 rfl rfl)
theorem dJ11_hugeLength_55 : decode cJ11_hugeLength 55 = .ok (.ldc 200, 2) := dk_18 200 (dk_at dksJ11_hugeLength_2 7 rfl rfl)
theorem dJ11_hugeLength_57 : decode cJ11_hugeLength 57 = .ok (.ireturn, 1) := dk_172 (dk_at dksJ11_hugeLength_2 9 rfl rfl)
theorem dJ11_hugeLength_58 : decode cJ11_hugeLength 58 = .ok (.iload_n 2, 1) := dk_28 (dk_at dksJ11_hugeLength_2 10 rfl rfl)
theorem dJ11_hugeLength_59 : decode cJ11_hugeLength 59 = .ok (.ireturn, 1) := dk_172 (dk_at dksJ11_hugeLength_2 11 rfl rfl)
abbrev cJ11_vectorizedHashCode : ByteArray := prog_57_method_4_code
def yJ11_vectorizedHashCode : MethodName := ⟨RJ11, "vectorizedHashCode", "(Ljava/lang/Object;IIII)I"⟩
def dkwJ11_vectorizedHashCode_6 : List UInt8 := [183, 0, 91, 18, 92, 182, 0, 94, 21, 4, 182, 0, 98, 182, 0, 101, 183, 0, 105, 191, 172]
abbrev dktJ11_vectorizedHashCode_6 : List UInt8 := dkwJ11_vectorizedHashCode_6 ++ []
def dkwJ11_vectorizedHashCode_5 : List UInt8 := [167, 0, 44, 29, 42, 192, 0, 82, 27, 28, 184, 0, 84, 167, 0, 31, 187, 0, 87, 89, 187, 0, 89, 89]
abbrev dktJ11_vectorizedHashCode_5 : List UInt8 := dkwJ11_vectorizedHashCode_5 ++ dktJ11_vectorizedHashCode_6
def dkwJ11_vectorizedHashCode_4 : List UInt8 := [29, 42, 192, 0, 60, 27, 28, 184, 0, 75, 167, 0, 57, 29, 42, 192, 0, 77, 27, 28, 184, 0, 79]
abbrev dktJ11_vectorizedHashCode_4 : List UInt8 := dkwJ11_vectorizedHashCode_4 ++ dktJ11_vectorizedHashCode_5
def dkwJ11_vectorizedHashCode_3 : List UInt8 := [192, 0, 60, 27, 28, 184, 0, 66, 167, 0, 83, 29, 42, 192, 0, 69, 27, 28, 184, 0, 71, 167, 0, 70]
abbrev dktJ11_vectorizedHashCode_3 : List UInt8 := dkwJ11_vectorizedHashCode_3 ++ dktJ11_vectorizedHashCode_4
def dkwJ11_vectorizedHashCode_2 : List UInt8 := [29, 42, 192, 0, 60, 27, 28, 184, 0, 62, 167, 0, 103, 42, 193, 0, 60, 153, 0, 16, 29, 42]
abbrev dktJ11_vectorizedHashCode_2 : List UInt8 := dkwJ11_vectorizedHashCode_2 ++ dktJ11_vectorizedHashCode_3
def dkwJ11_vectorizedHashCode_1 : List UInt8 := [170, 0, 0, 0, 0, 127, 0, 0, 0, 4, 0, 0, 0, 10, 0, 0, 0, 42, 0, 0, 0, 55, 0, 0, 0, 127, 0, 0, 0, 127, 0, 0, 0, 88, 0, 0, 0, 101, 0, 0, 0, 114]
abbrev dktJ11_vectorizedHashCode_1 : List UInt8 := dkwJ11_vectorizedHashCode_1 ++ dktJ11_vectorizedHashCode_2
def dkwJ11_vectorizedHashCode_0 : List UInt8 := [21, 4]
abbrev dktJ11_vectorizedHashCode_0 : List UInt8 := dkwJ11_vectorizedHashCode_0 ++ dktJ11_vectorizedHashCode_1
theorem dksJ11_vectorizedHashCode_0 : cJ11_vectorizedHashCode.data.toList.drop 0 = dktJ11_vectorizedHashCode_0 := by decide +kernel
theorem dksJ11_vectorizedHashCode_1 : cJ11_vectorizedHashCode.data.toList.drop 2 = dktJ11_vectorizedHashCode_1 := dk_seg dksJ11_vectorizedHashCode_0 2 rfl rfl
theorem dksJ11_vectorizedHashCode_2 : cJ11_vectorizedHashCode.data.toList.drop 44 = dktJ11_vectorizedHashCode_2 := dk_seg dksJ11_vectorizedHashCode_1 42 rfl rfl
theorem dksJ11_vectorizedHashCode_3 : cJ11_vectorizedHashCode.data.toList.drop 66 = dktJ11_vectorizedHashCode_3 := dk_seg dksJ11_vectorizedHashCode_2 22 rfl rfl
theorem dksJ11_vectorizedHashCode_4 : cJ11_vectorizedHashCode.data.toList.drop 90 = dktJ11_vectorizedHashCode_4 := dk_seg dksJ11_vectorizedHashCode_3 24 rfl rfl
theorem dksJ11_vectorizedHashCode_5 : cJ11_vectorizedHashCode.data.toList.drop 113 = dktJ11_vectorizedHashCode_5 := dk_seg dksJ11_vectorizedHashCode_4 23 rfl rfl
theorem dksJ11_vectorizedHashCode_6 : cJ11_vectorizedHashCode.data.toList.drop 137 = dktJ11_vectorizedHashCode_6 := dk_seg dksJ11_vectorizedHashCode_5 24 rfl rfl
theorem dJ11_vectorizedHashCode_0 : decode cJ11_vectorizedHashCode 0 = .ok (.iload 4, 2) := dk_21 4 (dk_at dksJ11_vectorizedHashCode_0 0 rfl rfl)
theorem dJ11_vectorizedHashCode_2 : decode cJ11_vectorizedHashCode 2 = .ok (.tableswitch 127 4 10 #[42, 55, 127, 127, 88, 101, 114], 42) := by decide +kernel
theorem dJ11_vectorizedHashCode_44 : decode cJ11_vectorizedHashCode 44 = .ok (.iload_n 3, 1) := dk_29 (dk_at dksJ11_vectorizedHashCode_2 0 rfl rfl)
theorem dJ11_vectorizedHashCode_45 : decode cJ11_vectorizedHashCode 45 = .ok (.aload_n 0, 1) := dk_42 (dk_at dksJ11_vectorizedHashCode_2 1 rfl rfl)
theorem dJ11_vectorizedHashCode_46 : decode cJ11_vectorizedHashCode 46 = .ok (.checkcast 60, 3) := dk_192 0 60 (dk_at dksJ11_vectorizedHashCode_2 2 rfl rfl)
theorem dJ11_vectorizedHashCode_49 : decode cJ11_vectorizedHashCode 49 = .ok (.iload_n 1, 1) := dk_27 (dk_at dksJ11_vectorizedHashCode_2 5 rfl rfl)
theorem dJ11_vectorizedHashCode_50 : decode cJ11_vectorizedHashCode 50 = .ok (.iload_n 2, 1) := dk_28 (dk_at dksJ11_vectorizedHashCode_2 6 rfl rfl)
theorem dJ11_vectorizedHashCode_51 : decode cJ11_vectorizedHashCode 51 = .ok (.invokestatic 62, 3) := dk_184 0 62 (dk_at dksJ11_vectorizedHashCode_2 7 rfl rfl)
theorem dJ11_vectorizedHashCode_54 : decode cJ11_vectorizedHashCode 54 = .ok (.goto 103, 3) := dk_167 0 103 (dk_at dksJ11_vectorizedHashCode_2 10 rfl rfl)
theorem dJ11_vectorizedHashCode_57 : decode cJ11_vectorizedHashCode 57 = .ok (.aload_n 0, 1) := dk_42 (dk_at dksJ11_vectorizedHashCode_2 13 rfl rfl)
theorem dJ11_vectorizedHashCode_58 : decode cJ11_vectorizedHashCode 58 = .ok (.instanceof 60, 3) := dk_193 0 60 (dk_at dksJ11_vectorizedHashCode_2 14 rfl rfl)
theorem dJ11_vectorizedHashCode_61 : decode cJ11_vectorizedHashCode 61 = .ok (.ifCond .eq 16, 3) := dk_153 0 16 (dk_at dksJ11_vectorizedHashCode_2 17 rfl rfl)
theorem dJ11_vectorizedHashCode_64 : decode cJ11_vectorizedHashCode 64 = .ok (.iload_n 3, 1) := dk_29 (dk_at dksJ11_vectorizedHashCode_2 20 rfl rfl)
theorem dJ11_vectorizedHashCode_65 : decode cJ11_vectorizedHashCode 65 = .ok (.aload_n 0, 1) := dk_42 (dk_at dksJ11_vectorizedHashCode_2 21 rfl rfl)
theorem dJ11_vectorizedHashCode_66 : decode cJ11_vectorizedHashCode 66 = .ok (.checkcast 60, 3) := dk_192 0 60 (dk_at dksJ11_vectorizedHashCode_3 0 rfl rfl)
theorem dJ11_vectorizedHashCode_69 : decode cJ11_vectorizedHashCode 69 = .ok (.iload_n 1, 1) := dk_27 (dk_at dksJ11_vectorizedHashCode_3 3 rfl rfl)
theorem dJ11_vectorizedHashCode_70 : decode cJ11_vectorizedHashCode 70 = .ok (.iload_n 2, 1) := dk_28 (dk_at dksJ11_vectorizedHashCode_3 4 rfl rfl)
theorem dJ11_vectorizedHashCode_71 : decode cJ11_vectorizedHashCode 71 = .ok (.invokestatic 66, 3) := dk_184 0 66 (dk_at dksJ11_vectorizedHashCode_3 5 rfl rfl)
theorem dJ11_vectorizedHashCode_74 : decode cJ11_vectorizedHashCode 74 = .ok (.goto 83, 3) := dk_167 0 83 (dk_at dksJ11_vectorizedHashCode_3 8 rfl rfl)
theorem dJ11_vectorizedHashCode_77 : decode cJ11_vectorizedHashCode 77 = .ok (.iload_n 3, 1) := dk_29 (dk_at dksJ11_vectorizedHashCode_3 11 rfl rfl)
theorem dJ11_vectorizedHashCode_78 : decode cJ11_vectorizedHashCode 78 = .ok (.aload_n 0, 1) := dk_42 (dk_at dksJ11_vectorizedHashCode_3 12 rfl rfl)
theorem dJ11_vectorizedHashCode_79 : decode cJ11_vectorizedHashCode 79 = .ok (.checkcast 69, 3) := dk_192 0 69 (dk_at dksJ11_vectorizedHashCode_3 13 rfl rfl)
theorem dJ11_vectorizedHashCode_82 : decode cJ11_vectorizedHashCode 82 = .ok (.iload_n 1, 1) := dk_27 (dk_at dksJ11_vectorizedHashCode_3 16 rfl rfl)
theorem dJ11_vectorizedHashCode_83 : decode cJ11_vectorizedHashCode 83 = .ok (.iload_n 2, 1) := dk_28 (dk_at dksJ11_vectorizedHashCode_3 17 rfl rfl)
theorem dJ11_vectorizedHashCode_84 : decode cJ11_vectorizedHashCode 84 = .ok (.invokestatic 71, 3) := dk_184 0 71 (dk_at dksJ11_vectorizedHashCode_3 18 rfl rfl)
theorem dJ11_vectorizedHashCode_87 : decode cJ11_vectorizedHashCode 87 = .ok (.goto 70, 3) := dk_167 0 70 (dk_at dksJ11_vectorizedHashCode_3 21 rfl rfl)
theorem dJ11_vectorizedHashCode_90 : decode cJ11_vectorizedHashCode 90 = .ok (.iload_n 3, 1) := dk_29 (dk_at dksJ11_vectorizedHashCode_4 0 rfl rfl)
theorem dJ11_vectorizedHashCode_91 : decode cJ11_vectorizedHashCode 91 = .ok (.aload_n 0, 1) := dk_42 (dk_at dksJ11_vectorizedHashCode_4 1 rfl rfl)
theorem dJ11_vectorizedHashCode_92 : decode cJ11_vectorizedHashCode 92 = .ok (.checkcast 60, 3) := dk_192 0 60 (dk_at dksJ11_vectorizedHashCode_4 2 rfl rfl)
theorem dJ11_vectorizedHashCode_95 : decode cJ11_vectorizedHashCode 95 = .ok (.iload_n 1, 1) := dk_27 (dk_at dksJ11_vectorizedHashCode_4 5 rfl rfl)
theorem dJ11_vectorizedHashCode_96 : decode cJ11_vectorizedHashCode 96 = .ok (.iload_n 2, 1) := dk_28 (dk_at dksJ11_vectorizedHashCode_4 6 rfl rfl)
theorem dJ11_vectorizedHashCode_97 : decode cJ11_vectorizedHashCode 97 = .ok (.invokestatic 75, 3) := dk_184 0 75 (dk_at dksJ11_vectorizedHashCode_4 7 rfl rfl)
theorem dJ11_vectorizedHashCode_100 : decode cJ11_vectorizedHashCode 100 = .ok (.goto 57, 3) := dk_167 0 57 (dk_at dksJ11_vectorizedHashCode_4 10 rfl rfl)
theorem dJ11_vectorizedHashCode_103 : decode cJ11_vectorizedHashCode 103 = .ok (.iload_n 3, 1) := dk_29 (dk_at dksJ11_vectorizedHashCode_4 13 rfl rfl)
theorem dJ11_vectorizedHashCode_104 : decode cJ11_vectorizedHashCode 104 = .ok (.aload_n 0, 1) := dk_42 (dk_at dksJ11_vectorizedHashCode_4 14 rfl rfl)
theorem dJ11_vectorizedHashCode_105 : decode cJ11_vectorizedHashCode 105 = .ok (.checkcast 77, 3) := dk_192 0 77 (dk_at dksJ11_vectorizedHashCode_4 15 rfl rfl)
theorem dJ11_vectorizedHashCode_108 : decode cJ11_vectorizedHashCode 108 = .ok (.iload_n 1, 1) := dk_27 (dk_at dksJ11_vectorizedHashCode_4 18 rfl rfl)
theorem dJ11_vectorizedHashCode_109 : decode cJ11_vectorizedHashCode 109 = .ok (.iload_n 2, 1) := dk_28 (dk_at dksJ11_vectorizedHashCode_4 19 rfl rfl)
theorem dJ11_vectorizedHashCode_110 : decode cJ11_vectorizedHashCode 110 = .ok (.invokestatic 79, 3) := dk_184 0 79 (dk_at dksJ11_vectorizedHashCode_4 20 rfl rfl)
theorem dJ11_vectorizedHashCode_113 : decode cJ11_vectorizedHashCode 113 = .ok (.goto 44, 3) := dk_167 0 44 (dk_at dksJ11_vectorizedHashCode_5 0 rfl rfl)
theorem dJ11_vectorizedHashCode_116 : decode cJ11_vectorizedHashCode 116 = .ok (.iload_n 3, 1) := dk_29 (dk_at dksJ11_vectorizedHashCode_5 3 rfl rfl)
theorem dJ11_vectorizedHashCode_117 : decode cJ11_vectorizedHashCode 117 = .ok (.aload_n 0, 1) := dk_42 (dk_at dksJ11_vectorizedHashCode_5 4 rfl rfl)
theorem dJ11_vectorizedHashCode_118 : decode cJ11_vectorizedHashCode 118 = .ok (.checkcast 82, 3) := dk_192 0 82 (dk_at dksJ11_vectorizedHashCode_5 5 rfl rfl)
theorem dJ11_vectorizedHashCode_121 : decode cJ11_vectorizedHashCode 121 = .ok (.iload_n 1, 1) := dk_27 (dk_at dksJ11_vectorizedHashCode_5 8 rfl rfl)
theorem dJ11_vectorizedHashCode_122 : decode cJ11_vectorizedHashCode 122 = .ok (.iload_n 2, 1) := dk_28 (dk_at dksJ11_vectorizedHashCode_5 9 rfl rfl)
theorem dJ11_vectorizedHashCode_123 : decode cJ11_vectorizedHashCode 123 = .ok (.invokestatic 84, 3) := dk_184 0 84 (dk_at dksJ11_vectorizedHashCode_5 10 rfl rfl)
theorem dJ11_vectorizedHashCode_126 : decode cJ11_vectorizedHashCode 126 = .ok (.goto 31, 3) := dk_167 0 31 (dk_at dksJ11_vectorizedHashCode_5 13 rfl rfl)
theorem dJ11_vectorizedHashCode_129 : decode cJ11_vectorizedHashCode 129 = .ok (.new 87, 3) := dk_187 0 87 (dk_at dksJ11_vectorizedHashCode_5 16 rfl rfl)
theorem dJ11_vectorizedHashCode_132 : decode cJ11_vectorizedHashCode 132 = .ok (.dup, 1) := dk_89 (dk_at dksJ11_vectorizedHashCode_5 19 rfl rfl)
theorem dJ11_vectorizedHashCode_133 : decode cJ11_vectorizedHashCode 133 = .ok (.new 89, 3) := dk_187 0 89 (dk_at dksJ11_vectorizedHashCode_5 20 rfl rfl)
theorem dJ11_vectorizedHashCode_136 : decode cJ11_vectorizedHashCode 136 = .ok (.dup, 1) := dk_89 (dk_at dksJ11_vectorizedHashCode_5 23 rfl rfl)
theorem dJ11_vectorizedHashCode_137 : decode cJ11_vectorizedHashCode 137 = .ok (.invokespecial 91, 3) := dk_183 0 91 (dk_at dksJ11_vectorizedHashCode_6 0 rfl rfl)
theorem dJ11_vectorizedHashCode_140 : decode cJ11_vectorizedHashCode 140 = .ok (.ldc 92, 2) := dk_18 92 (dk_at dksJ11_vectorizedHashCode_6 3 rfl rfl)
theorem dJ11_vectorizedHashCode_142 : decode cJ11_vectorizedHashCode 142 = .ok (.invokevirtual 94, 3) := dk_182 0 94 (dk_at dksJ11_vectorizedHashCode_6 5 rfl rfl)
theorem dJ11_vectorizedHashCode_145 : decode cJ11_vectorizedHashCode 145 = .ok (.iload 4, 2) := dk_21 4 (dk_at dksJ11_vectorizedHashCode_6 8 rfl rfl)
theorem dJ11_vectorizedHashCode_147 : decode cJ11_vectorizedHashCode 147 = .ok (.invokevirtual 98, 3) := dk_182 0 98 (dk_at dksJ11_vectorizedHashCode_6 10 rfl rfl)
theorem dJ11_vectorizedHashCode_150 : decode cJ11_vectorizedHashCode 150 = .ok (.invokevirtual 101, 3) := dk_182 0 101 (dk_at dksJ11_vectorizedHashCode_6 13 rfl rfl)
theorem dJ11_vectorizedHashCode_153 : decode cJ11_vectorizedHashCode 153 = .ok (.invokespecial 105, 3) := dk_183 0 105 (dk_at dksJ11_vectorizedHashCode_6 16 rfl rfl)
theorem dJ11_vectorizedHashCode_156 : decode cJ11_vectorizedHashCode 156 = .ok (.athrow, 1) := dk_191 (dk_at dksJ11_vectorizedHashCode_6 19 rfl rfl)
theorem dJ11_vectorizedHashCode_157 : decode cJ11_vectorizedHashCode 157 = .ok (.ireturn, 1) := dk_172 (dk_at dksJ11_vectorizedHashCode_6 20 rfl rfl)
abbrev cJ11_signedHashCode : ByteArray := prog_57_method_5_code
def yJ11_signedHashCode : MethodName := ⟨RJ11, "signedHashCode", "(I[BII)I"⟩
def dkwJ11_signedHashCode_1 : List UInt8 := [17, 0, 255, 126, 96, 59, 132, 5, 1, 167, 255, 232, 26, 172]
abbrev dktJ11_signedHashCode_1 : List UInt8 := dkwJ11_signedHashCode_1 ++ []
def dkwJ11_signedHashCode_0 : List UInt8 := [28, 29, 96, 54, 4, 28, 54, 5, 21, 5, 21, 4, 162, 0, 23, 16, 31, 26, 104, 43, 21, 5, 51]
abbrev dktJ11_signedHashCode_0 : List UInt8 := dkwJ11_signedHashCode_0 ++ dktJ11_signedHashCode_1
theorem dksJ11_signedHashCode_0 : cJ11_signedHashCode.data.toList.drop 0 = dktJ11_signedHashCode_0 := by decide +kernel
theorem dksJ11_signedHashCode_1 : cJ11_signedHashCode.data.toList.drop 23 = dktJ11_signedHashCode_1 := dk_seg dksJ11_signedHashCode_0 23 rfl rfl
theorem dJ11_signedHashCode_0 : decode cJ11_signedHashCode 0 = .ok (.iload_n 2, 1) := dk_28 (dk_at dksJ11_signedHashCode_0 0 rfl rfl)
theorem dJ11_signedHashCode_1 : decode cJ11_signedHashCode 1 = .ok (.iload_n 3, 1) := dk_29 (dk_at dksJ11_signedHashCode_0 1 rfl rfl)
theorem dJ11_signedHashCode_2 : decode cJ11_signedHashCode 2 = .ok (.iadd, 1) := dk_96 (dk_at dksJ11_signedHashCode_0 2 rfl rfl)
theorem dJ11_signedHashCode_3 : decode cJ11_signedHashCode 3 = .ok (.istore 4, 2) := dk_54 4 (dk_at dksJ11_signedHashCode_0 3 rfl rfl)
theorem dJ11_signedHashCode_5 : decode cJ11_signedHashCode 5 = .ok (.iload_n 2, 1) := dk_28 (dk_at dksJ11_signedHashCode_0 5 rfl rfl)
theorem dJ11_signedHashCode_6 : decode cJ11_signedHashCode 6 = .ok (.istore 5, 2) := dk_54 5 (dk_at dksJ11_signedHashCode_0 6 rfl rfl)
theorem dJ11_signedHashCode_8 : decode cJ11_signedHashCode 8 = .ok (.iload 5, 2) := dk_21 5 (dk_at dksJ11_signedHashCode_0 8 rfl rfl)
theorem dJ11_signedHashCode_10 : decode cJ11_signedHashCode 10 = .ok (.iload 4, 2) := dk_21 4 (dk_at dksJ11_signedHashCode_0 10 rfl rfl)
theorem dJ11_signedHashCode_12 : decode cJ11_signedHashCode 12 = .ok (.if_icmp .ge 23, 3) := dk_162 0 23 (dk_at dksJ11_signedHashCode_0 12 rfl rfl)
theorem dJ11_signedHashCode_15 : decode cJ11_signedHashCode 15 = .ok (.bipush 31, 2) := dk_16 31 (dk_at dksJ11_signedHashCode_0 15 rfl rfl)
theorem dJ11_signedHashCode_17 : decode cJ11_signedHashCode 17 = .ok (.iload_n 0, 1) := dk_26 (dk_at dksJ11_signedHashCode_0 17 rfl rfl)
theorem dJ11_signedHashCode_18 : decode cJ11_signedHashCode 18 = .ok (.imul, 1) := dk_104 (dk_at dksJ11_signedHashCode_0 18 rfl rfl)
theorem dJ11_signedHashCode_19 : decode cJ11_signedHashCode 19 = .ok (.aload_n 1, 1) := dk_43 (dk_at dksJ11_signedHashCode_0 19 rfl rfl)
theorem dJ11_signedHashCode_20 : decode cJ11_signedHashCode 20 = .ok (.iload 5, 2) := dk_21 5 (dk_at dksJ11_signedHashCode_0 20 rfl rfl)
theorem dJ11_signedHashCode_22 : decode cJ11_signedHashCode 22 = .ok (.baload, 1) := dk_51 (dk_at dksJ11_signedHashCode_0 22 rfl rfl)
theorem dJ11_signedHashCode_23 : decode cJ11_signedHashCode 23 = .ok (.sipush 255, 3) := dk_17 0 255 (dk_at dksJ11_signedHashCode_1 0 rfl rfl)
theorem dJ11_signedHashCode_26 : decode cJ11_signedHashCode 26 = .ok (.iand, 1) := dk_126 (dk_at dksJ11_signedHashCode_1 3 rfl rfl)
theorem dJ11_signedHashCode_27 : decode cJ11_signedHashCode 27 = .ok (.iadd, 1) := dk_96 (dk_at dksJ11_signedHashCode_1 4 rfl rfl)
theorem dJ11_signedHashCode_28 : decode cJ11_signedHashCode 28 = .ok (.istore_n 0, 1) := dk_59 (dk_at dksJ11_signedHashCode_1 5 rfl rfl)
theorem dJ11_signedHashCode_29 : decode cJ11_signedHashCode 29 = .ok (.iinc 5 1, 3) := dk_132 5 1 (dk_at dksJ11_signedHashCode_1 6 rfl rfl)
theorem dJ11_signedHashCode_32 : decode cJ11_signedHashCode 32 = .ok (.goto (-24), 3) := dk_167 255 232 (dk_at dksJ11_signedHashCode_1 9 rfl rfl)
theorem dJ11_signedHashCode_35 : decode cJ11_signedHashCode 35 = .ok (.iload_n 0, 1) := dk_26 (dk_at dksJ11_signedHashCode_1 12 rfl rfl)
theorem dJ11_signedHashCode_36 : decode cJ11_signedHashCode 36 = .ok (.ireturn, 1) := dk_172 (dk_at dksJ11_signedHashCode_1 13 rfl rfl)
abbrev cJ11_utf16hashCode : ByteArray := prog_57_method_10_code
def yJ11_utf16hashCode : MethodName := ⟨RJ11, "utf16hashCode", "(I[BII)I"⟩
def dkwJ11_utf16hashCode_1 : List UInt8 := [21, 5, 185, 0, 110, 3, 0, 96, 59, 132, 5, 1, 167, 255, 229, 26, 172]
abbrev dktJ11_utf16hashCode_1 : List UInt8 := dkwJ11_utf16hashCode_1 ++ []
def dkwJ11_utf16hashCode_0 : List UInt8 := [28, 29, 96, 54, 4, 28, 54, 5, 21, 5, 21, 4, 162, 0, 26, 16, 31, 26, 104, 178, 0, 106, 43]
abbrev dktJ11_utf16hashCode_0 : List UInt8 := dkwJ11_utf16hashCode_0 ++ dktJ11_utf16hashCode_1
theorem dksJ11_utf16hashCode_0 : cJ11_utf16hashCode.data.toList.drop 0 = dktJ11_utf16hashCode_0 := by decide +kernel
theorem dksJ11_utf16hashCode_1 : cJ11_utf16hashCode.data.toList.drop 23 = dktJ11_utf16hashCode_1 := dk_seg dksJ11_utf16hashCode_0 23 rfl rfl
theorem dJ11_utf16hashCode_0 : decode cJ11_utf16hashCode 0 = .ok (.iload_n 2, 1) := dk_28 (dk_at dksJ11_utf16hashCode_0 0 rfl rfl)
theorem dJ11_utf16hashCode_1 : decode cJ11_utf16hashCode 1 = .ok (.iload_n 3, 1) := dk_29 (dk_at dksJ11_utf16hashCode_0 1 rfl rfl)
theorem dJ11_utf16hashCode_2 : decode cJ11_utf16hashCode 2 = .ok (.iadd, 1) := dk_96 (dk_at dksJ11_utf16hashCode_0 2 rfl rfl)
theorem dJ11_utf16hashCode_3 : decode cJ11_utf16hashCode 3 = .ok (.istore 4, 2) := dk_54 4 (dk_at dksJ11_utf16hashCode_0 3 rfl rfl)
theorem dJ11_utf16hashCode_5 : decode cJ11_utf16hashCode 5 = .ok (.iload_n 2, 1) := dk_28 (dk_at dksJ11_utf16hashCode_0 5 rfl rfl)
theorem dJ11_utf16hashCode_6 : decode cJ11_utf16hashCode 6 = .ok (.istore 5, 2) := dk_54 5 (dk_at dksJ11_utf16hashCode_0 6 rfl rfl)
theorem dJ11_utf16hashCode_8 : decode cJ11_utf16hashCode 8 = .ok (.iload 5, 2) := dk_21 5 (dk_at dksJ11_utf16hashCode_0 8 rfl rfl)
theorem dJ11_utf16hashCode_10 : decode cJ11_utf16hashCode 10 = .ok (.iload 4, 2) := dk_21 4 (dk_at dksJ11_utf16hashCode_0 10 rfl rfl)
theorem dJ11_utf16hashCode_12 : decode cJ11_utf16hashCode 12 = .ok (.if_icmp .ge 26, 3) := dk_162 0 26 (dk_at dksJ11_utf16hashCode_0 12 rfl rfl)
theorem dJ11_utf16hashCode_15 : decode cJ11_utf16hashCode 15 = .ok (.bipush 31, 2) := dk_16 31 (dk_at dksJ11_utf16hashCode_0 15 rfl rfl)
theorem dJ11_utf16hashCode_17 : decode cJ11_utf16hashCode 17 = .ok (.iload_n 0, 1) := dk_26 (dk_at dksJ11_utf16hashCode_0 17 rfl rfl)
theorem dJ11_utf16hashCode_18 : decode cJ11_utf16hashCode 18 = .ok (.imul, 1) := dk_104 (dk_at dksJ11_utf16hashCode_0 18 rfl rfl)
theorem dJ11_utf16hashCode_19 : decode cJ11_utf16hashCode 19 = .ok (.getstatic 106, 3) := dk_178 0 106 (dk_at dksJ11_utf16hashCode_0 19 rfl rfl)
theorem dJ11_utf16hashCode_22 : decode cJ11_utf16hashCode 22 = .ok (.aload_n 1, 1) := dk_43 (dk_at dksJ11_utf16hashCode_0 22 rfl rfl)
theorem dJ11_utf16hashCode_23 : decode cJ11_utf16hashCode 23 = .ok (.iload 5, 2) := dk_21 5 (dk_at dksJ11_utf16hashCode_1 0 rfl rfl)
theorem dJ11_utf16hashCode_25 : decode cJ11_utf16hashCode 25 = .ok (.invokeinterface 110 3, 5) := by decide +kernel
theorem dJ11_utf16hashCode_30 : decode cJ11_utf16hashCode 30 = .ok (.iadd, 1) := dk_96 (dk_at dksJ11_utf16hashCode_1 7 rfl rfl)
theorem dJ11_utf16hashCode_31 : decode cJ11_utf16hashCode 31 = .ok (.istore_n 0, 1) := dk_59 (dk_at dksJ11_utf16hashCode_1 8 rfl rfl)
theorem dJ11_utf16hashCode_32 : decode cJ11_utf16hashCode 32 = .ok (.iinc 5 1, 3) := dk_132 5 1 (dk_at dksJ11_utf16hashCode_1 9 rfl rfl)
theorem dJ11_utf16hashCode_35 : decode cJ11_utf16hashCode 35 = .ok (.goto (-27), 3) := dk_167 255 229 (dk_at dksJ11_utf16hashCode_1 12 rfl rfl)
theorem dJ11_utf16hashCode_38 : decode cJ11_utf16hashCode 38 = .ok (.iload_n 0, 1) := dk_26 (dk_at dksJ11_utf16hashCode_1 15 rfl rfl)
theorem dJ11_utf16hashCode_39 : decode cJ11_utf16hashCode 39 = .ok (.ireturn, 1) := dk_172 (dk_at dksJ11_utf16hashCode_1 16 rfl rfl)
abbrev cJ11_hashCode : ByteArray := prog_57_method_7_code
def yJ11_hashCode : MethodName := ⟨RJ11, "hashCode", "(I[CII)I"⟩
def dkwJ11_hashCode_1 : List UInt8 := [59, 132, 5, 1, 167, 255, 236, 26, 172]
abbrev dktJ11_hashCode_1 : List UInt8 := dkwJ11_hashCode_1 ++ []
def dkwJ11_hashCode_0 : List UInt8 := [28, 29, 96, 54, 4, 28, 54, 5, 21, 5, 21, 4, 162, 0, 19, 16, 31, 26, 104, 43, 21, 5, 52, 96]
abbrev dktJ11_hashCode_0 : List UInt8 := dkwJ11_hashCode_0 ++ dktJ11_hashCode_1
theorem dksJ11_hashCode_0 : cJ11_hashCode.data.toList.drop 0 = dktJ11_hashCode_0 := by decide +kernel
theorem dksJ11_hashCode_1 : cJ11_hashCode.data.toList.drop 24 = dktJ11_hashCode_1 := dk_seg dksJ11_hashCode_0 24 rfl rfl
theorem dJ11_hashCode_0 : decode cJ11_hashCode 0 = .ok (.iload_n 2, 1) := dk_28 (dk_at dksJ11_hashCode_0 0 rfl rfl)
theorem dJ11_hashCode_1 : decode cJ11_hashCode 1 = .ok (.iload_n 3, 1) := dk_29 (dk_at dksJ11_hashCode_0 1 rfl rfl)
theorem dJ11_hashCode_2 : decode cJ11_hashCode 2 = .ok (.iadd, 1) := dk_96 (dk_at dksJ11_hashCode_0 2 rfl rfl)
theorem dJ11_hashCode_3 : decode cJ11_hashCode 3 = .ok (.istore 4, 2) := dk_54 4 (dk_at dksJ11_hashCode_0 3 rfl rfl)
theorem dJ11_hashCode_5 : decode cJ11_hashCode 5 = .ok (.iload_n 2, 1) := dk_28 (dk_at dksJ11_hashCode_0 5 rfl rfl)
theorem dJ11_hashCode_6 : decode cJ11_hashCode 6 = .ok (.istore 5, 2) := dk_54 5 (dk_at dksJ11_hashCode_0 6 rfl rfl)
theorem dJ11_hashCode_8 : decode cJ11_hashCode 8 = .ok (.iload 5, 2) := dk_21 5 (dk_at dksJ11_hashCode_0 8 rfl rfl)
theorem dJ11_hashCode_10 : decode cJ11_hashCode 10 = .ok (.iload 4, 2) := dk_21 4 (dk_at dksJ11_hashCode_0 10 rfl rfl)
theorem dJ11_hashCode_12 : decode cJ11_hashCode 12 = .ok (.if_icmp .ge 19, 3) := dk_162 0 19 (dk_at dksJ11_hashCode_0 12 rfl rfl)
theorem dJ11_hashCode_15 : decode cJ11_hashCode 15 = .ok (.bipush 31, 2) := dk_16 31 (dk_at dksJ11_hashCode_0 15 rfl rfl)
theorem dJ11_hashCode_17 : decode cJ11_hashCode 17 = .ok (.iload_n 0, 1) := dk_26 (dk_at dksJ11_hashCode_0 17 rfl rfl)
theorem dJ11_hashCode_18 : decode cJ11_hashCode 18 = .ok (.imul, 1) := dk_104 (dk_at dksJ11_hashCode_0 18 rfl rfl)
theorem dJ11_hashCode_19 : decode cJ11_hashCode 19 = .ok (.aload_n 1, 1) := dk_43 (dk_at dksJ11_hashCode_0 19 rfl rfl)
theorem dJ11_hashCode_20 : decode cJ11_hashCode 20 = .ok (.iload 5, 2) := dk_21 5 (dk_at dksJ11_hashCode_0 20 rfl rfl)
theorem dJ11_hashCode_22 : decode cJ11_hashCode 22 = .ok (.caload, 1) := dk_52 (dk_at dksJ11_hashCode_0 22 rfl rfl)
theorem dJ11_hashCode_23 : decode cJ11_hashCode 23 = .ok (.iadd, 1) := dk_96 (dk_at dksJ11_hashCode_0 23 rfl rfl)
theorem dJ11_hashCode_24 : decode cJ11_hashCode 24 = .ok (.istore_n 0, 1) := dk_59 (dk_at dksJ11_hashCode_1 0 rfl rfl)
theorem dJ11_hashCode_25 : decode cJ11_hashCode 25 = .ok (.iinc 5 1, 3) := dk_132 5 1 (dk_at dksJ11_hashCode_1 1 rfl rfl)
theorem dJ11_hashCode_28 : decode cJ11_hashCode 28 = .ok (.goto (-20), 3) := dk_167 255 236 (dk_at dksJ11_hashCode_1 4 rfl rfl)
theorem dJ11_hashCode_31 : decode cJ11_hashCode 31 = .ok (.iload_n 0, 1) := dk_26 (dk_at dksJ11_hashCode_1 7 rfl rfl)
theorem dJ11_hashCode_32 : decode cJ11_hashCode 32 = .ok (.ireturn, 1) := dk_172 (dk_at dksJ11_hashCode_1 8 rfl rfl)
abbrev cJ11_hashCode_2 : ByteArray := prog_57_method_6_code
def yJ11_hashCode_2 : MethodName := ⟨RJ11, "hashCode", "(I[BII)I"⟩
def dkwJ11_hashCode_2_1 : List UInt8 := [59, 132, 5, 1, 167, 255, 236, 26, 172]
abbrev dktJ11_hashCode_2_1 : List UInt8 := dkwJ11_hashCode_2_1 ++ []
def dkwJ11_hashCode_2_0 : List UInt8 := [28, 29, 96, 54, 4, 28, 54, 5, 21, 5, 21, 4, 162, 0, 19, 16, 31, 26, 104, 43, 21, 5, 51, 96]
abbrev dktJ11_hashCode_2_0 : List UInt8 := dkwJ11_hashCode_2_0 ++ dktJ11_hashCode_2_1
theorem dksJ11_hashCode_2_0 : cJ11_hashCode_2.data.toList.drop 0 = dktJ11_hashCode_2_0 := by decide +kernel
theorem dksJ11_hashCode_2_1 : cJ11_hashCode_2.data.toList.drop 24 = dktJ11_hashCode_2_1 := dk_seg dksJ11_hashCode_2_0 24 rfl rfl
theorem dJ11_hashCode_2_0 : decode cJ11_hashCode_2 0 = .ok (.iload_n 2, 1) := dk_28 (dk_at dksJ11_hashCode_2_0 0 rfl rfl)
theorem dJ11_hashCode_2_1 : decode cJ11_hashCode_2 1 = .ok (.iload_n 3, 1) := dk_29 (dk_at dksJ11_hashCode_2_0 1 rfl rfl)
theorem dJ11_hashCode_2_2 : decode cJ11_hashCode_2 2 = .ok (.iadd, 1) := dk_96 (dk_at dksJ11_hashCode_2_0 2 rfl rfl)
theorem dJ11_hashCode_2_3 : decode cJ11_hashCode_2 3 = .ok (.istore 4, 2) := dk_54 4 (dk_at dksJ11_hashCode_2_0 3 rfl rfl)
theorem dJ11_hashCode_2_5 : decode cJ11_hashCode_2 5 = .ok (.iload_n 2, 1) := dk_28 (dk_at dksJ11_hashCode_2_0 5 rfl rfl)
theorem dJ11_hashCode_2_6 : decode cJ11_hashCode_2 6 = .ok (.istore 5, 2) := dk_54 5 (dk_at dksJ11_hashCode_2_0 6 rfl rfl)
theorem dJ11_hashCode_2_8 : decode cJ11_hashCode_2 8 = .ok (.iload 5, 2) := dk_21 5 (dk_at dksJ11_hashCode_2_0 8 rfl rfl)
theorem dJ11_hashCode_2_10 : decode cJ11_hashCode_2 10 = .ok (.iload 4, 2) := dk_21 4 (dk_at dksJ11_hashCode_2_0 10 rfl rfl)
theorem dJ11_hashCode_2_12 : decode cJ11_hashCode_2 12 = .ok (.if_icmp .ge 19, 3) := dk_162 0 19 (dk_at dksJ11_hashCode_2_0 12 rfl rfl)
theorem dJ11_hashCode_2_15 : decode cJ11_hashCode_2 15 = .ok (.bipush 31, 2) := dk_16 31 (dk_at dksJ11_hashCode_2_0 15 rfl rfl)
theorem dJ11_hashCode_2_17 : decode cJ11_hashCode_2 17 = .ok (.iload_n 0, 1) := dk_26 (dk_at dksJ11_hashCode_2_0 17 rfl rfl)
theorem dJ11_hashCode_2_18 : decode cJ11_hashCode_2 18 = .ok (.imul, 1) := dk_104 (dk_at dksJ11_hashCode_2_0 18 rfl rfl)
theorem dJ11_hashCode_2_19 : decode cJ11_hashCode_2 19 = .ok (.aload_n 1, 1) := dk_43 (dk_at dksJ11_hashCode_2_0 19 rfl rfl)
theorem dJ11_hashCode_2_20 : decode cJ11_hashCode_2 20 = .ok (.iload 5, 2) := dk_21 5 (dk_at dksJ11_hashCode_2_0 20 rfl rfl)
theorem dJ11_hashCode_2_22 : decode cJ11_hashCode_2 22 = .ok (.baload, 1) := dk_51 (dk_at dksJ11_hashCode_2_0 22 rfl rfl)
theorem dJ11_hashCode_2_23 : decode cJ11_hashCode_2 23 = .ok (.iadd, 1) := dk_96 (dk_at dksJ11_hashCode_2_0 23 rfl rfl)
theorem dJ11_hashCode_2_24 : decode cJ11_hashCode_2 24 = .ok (.istore_n 0, 1) := dk_59 (dk_at dksJ11_hashCode_2_1 0 rfl rfl)
theorem dJ11_hashCode_2_25 : decode cJ11_hashCode_2 25 = .ok (.iinc 5 1, 3) := dk_132 5 1 (dk_at dksJ11_hashCode_2_1 1 rfl rfl)
theorem dJ11_hashCode_2_28 : decode cJ11_hashCode_2 28 = .ok (.goto (-20), 3) := dk_167 255 236 (dk_at dksJ11_hashCode_2_1 4 rfl rfl)
theorem dJ11_hashCode_2_31 : decode cJ11_hashCode_2 31 = .ok (.iload_n 0, 1) := dk_26 (dk_at dksJ11_hashCode_2_1 7 rfl rfl)
theorem dJ11_hashCode_2_32 : decode cJ11_hashCode_2 32 = .ok (.ireturn, 1) := dk_172 (dk_at dksJ11_hashCode_2_1 8 rfl rfl)
abbrev cJ11_hashCode_3 : ByteArray := prog_57_method_8_code
def yJ11_hashCode_3 : MethodName := ⟨RJ11, "hashCode", "(I[SII)I"⟩
def dkwJ11_hashCode_3_1 : List UInt8 := [59, 132, 5, 1, 167, 255, 236, 26, 172]
abbrev dktJ11_hashCode_3_1 : List UInt8 := dkwJ11_hashCode_3_1 ++ []
def dkwJ11_hashCode_3_0 : List UInt8 := [28, 29, 96, 54, 4, 28, 54, 5, 21, 5, 21, 4, 162, 0, 19, 16, 31, 26, 104, 43, 21, 5, 53, 96]
abbrev dktJ11_hashCode_3_0 : List UInt8 := dkwJ11_hashCode_3_0 ++ dktJ11_hashCode_3_1
theorem dksJ11_hashCode_3_0 : cJ11_hashCode_3.data.toList.drop 0 = dktJ11_hashCode_3_0 := by decide +kernel
theorem dksJ11_hashCode_3_1 : cJ11_hashCode_3.data.toList.drop 24 = dktJ11_hashCode_3_1 := dk_seg dksJ11_hashCode_3_0 24 rfl rfl
theorem dJ11_hashCode_3_0 : decode cJ11_hashCode_3 0 = .ok (.iload_n 2, 1) := dk_28 (dk_at dksJ11_hashCode_3_0 0 rfl rfl)
theorem dJ11_hashCode_3_1 : decode cJ11_hashCode_3 1 = .ok (.iload_n 3, 1) := dk_29 (dk_at dksJ11_hashCode_3_0 1 rfl rfl)
theorem dJ11_hashCode_3_2 : decode cJ11_hashCode_3 2 = .ok (.iadd, 1) := dk_96 (dk_at dksJ11_hashCode_3_0 2 rfl rfl)
theorem dJ11_hashCode_3_3 : decode cJ11_hashCode_3 3 = .ok (.istore 4, 2) := dk_54 4 (dk_at dksJ11_hashCode_3_0 3 rfl rfl)
theorem dJ11_hashCode_3_5 : decode cJ11_hashCode_3 5 = .ok (.iload_n 2, 1) := dk_28 (dk_at dksJ11_hashCode_3_0 5 rfl rfl)
theorem dJ11_hashCode_3_6 : decode cJ11_hashCode_3 6 = .ok (.istore 5, 2) := dk_54 5 (dk_at dksJ11_hashCode_3_0 6 rfl rfl)
theorem dJ11_hashCode_3_8 : decode cJ11_hashCode_3 8 = .ok (.iload 5, 2) := dk_21 5 (dk_at dksJ11_hashCode_3_0 8 rfl rfl)
theorem dJ11_hashCode_3_10 : decode cJ11_hashCode_3 10 = .ok (.iload 4, 2) := dk_21 4 (dk_at dksJ11_hashCode_3_0 10 rfl rfl)
theorem dJ11_hashCode_3_12 : decode cJ11_hashCode_3 12 = .ok (.if_icmp .ge 19, 3) := dk_162 0 19 (dk_at dksJ11_hashCode_3_0 12 rfl rfl)
theorem dJ11_hashCode_3_15 : decode cJ11_hashCode_3 15 = .ok (.bipush 31, 2) := dk_16 31 (dk_at dksJ11_hashCode_3_0 15 rfl rfl)
theorem dJ11_hashCode_3_17 : decode cJ11_hashCode_3 17 = .ok (.iload_n 0, 1) := dk_26 (dk_at dksJ11_hashCode_3_0 17 rfl rfl)
theorem dJ11_hashCode_3_18 : decode cJ11_hashCode_3 18 = .ok (.imul, 1) := dk_104 (dk_at dksJ11_hashCode_3_0 18 rfl rfl)
theorem dJ11_hashCode_3_19 : decode cJ11_hashCode_3 19 = .ok (.aload_n 1, 1) := dk_43 (dk_at dksJ11_hashCode_3_0 19 rfl rfl)
theorem dJ11_hashCode_3_20 : decode cJ11_hashCode_3 20 = .ok (.iload 5, 2) := dk_21 5 (dk_at dksJ11_hashCode_3_0 20 rfl rfl)
theorem dJ11_hashCode_3_22 : decode cJ11_hashCode_3 22 = .ok (.saload, 1) := dk_53 (dk_at dksJ11_hashCode_3_0 22 rfl rfl)
theorem dJ11_hashCode_3_23 : decode cJ11_hashCode_3 23 = .ok (.iadd, 1) := dk_96 (dk_at dksJ11_hashCode_3_0 23 rfl rfl)
theorem dJ11_hashCode_3_24 : decode cJ11_hashCode_3 24 = .ok (.istore_n 0, 1) := dk_59 (dk_at dksJ11_hashCode_3_1 0 rfl rfl)
theorem dJ11_hashCode_3_25 : decode cJ11_hashCode_3 25 = .ok (.iinc 5 1, 3) := dk_132 5 1 (dk_at dksJ11_hashCode_3_1 1 rfl rfl)
theorem dJ11_hashCode_3_28 : decode cJ11_hashCode_3 28 = .ok (.goto (-20), 3) := dk_167 255 236 (dk_at dksJ11_hashCode_3_1 4 rfl rfl)
theorem dJ11_hashCode_3_31 : decode cJ11_hashCode_3 31 = .ok (.iload_n 0, 1) := dk_26 (dk_at dksJ11_hashCode_3_1 7 rfl rfl)
theorem dJ11_hashCode_3_32 : decode cJ11_hashCode_3 32 = .ok (.ireturn, 1) := dk_172 (dk_at dksJ11_hashCode_3_1 8 rfl rfl)
abbrev cJ11_hashCode_4 : ByteArray := prog_57_method_9_code
def yJ11_hashCode_4 : MethodName := ⟨RJ11, "hashCode", "(I[III)I"⟩
def dkwJ11_hashCode_4_1 : List UInt8 := [59, 132, 5, 1, 167, 255, 236, 26, 172]
abbrev dktJ11_hashCode_4_1 : List UInt8 := dkwJ11_hashCode_4_1 ++ []
def dkwJ11_hashCode_4_0 : List UInt8 := [28, 29, 96, 54, 4, 28, 54, 5, 21, 5, 21, 4, 162, 0, 19, 16, 31, 26, 104, 43, 21, 5, 46, 96]
abbrev dktJ11_hashCode_4_0 : List UInt8 := dkwJ11_hashCode_4_0 ++ dktJ11_hashCode_4_1
theorem dksJ11_hashCode_4_0 : cJ11_hashCode_4.data.toList.drop 0 = dktJ11_hashCode_4_0 := by decide +kernel
theorem dksJ11_hashCode_4_1 : cJ11_hashCode_4.data.toList.drop 24 = dktJ11_hashCode_4_1 := dk_seg dksJ11_hashCode_4_0 24 rfl rfl
theorem dJ11_hashCode_4_0 : decode cJ11_hashCode_4 0 = .ok (.iload_n 2, 1) := dk_28 (dk_at dksJ11_hashCode_4_0 0 rfl rfl)
theorem dJ11_hashCode_4_1 : decode cJ11_hashCode_4 1 = .ok (.iload_n 3, 1) := dk_29 (dk_at dksJ11_hashCode_4_0 1 rfl rfl)
theorem dJ11_hashCode_4_2 : decode cJ11_hashCode_4 2 = .ok (.iadd, 1) := dk_96 (dk_at dksJ11_hashCode_4_0 2 rfl rfl)
theorem dJ11_hashCode_4_3 : decode cJ11_hashCode_4 3 = .ok (.istore 4, 2) := dk_54 4 (dk_at dksJ11_hashCode_4_0 3 rfl rfl)
theorem dJ11_hashCode_4_5 : decode cJ11_hashCode_4 5 = .ok (.iload_n 2, 1) := dk_28 (dk_at dksJ11_hashCode_4_0 5 rfl rfl)
theorem dJ11_hashCode_4_6 : decode cJ11_hashCode_4 6 = .ok (.istore 5, 2) := dk_54 5 (dk_at dksJ11_hashCode_4_0 6 rfl rfl)
theorem dJ11_hashCode_4_8 : decode cJ11_hashCode_4 8 = .ok (.iload 5, 2) := dk_21 5 (dk_at dksJ11_hashCode_4_0 8 rfl rfl)
theorem dJ11_hashCode_4_10 : decode cJ11_hashCode_4 10 = .ok (.iload 4, 2) := dk_21 4 (dk_at dksJ11_hashCode_4_0 10 rfl rfl)
theorem dJ11_hashCode_4_12 : decode cJ11_hashCode_4 12 = .ok (.if_icmp .ge 19, 3) := dk_162 0 19 (dk_at dksJ11_hashCode_4_0 12 rfl rfl)
theorem dJ11_hashCode_4_15 : decode cJ11_hashCode_4 15 = .ok (.bipush 31, 2) := dk_16 31 (dk_at dksJ11_hashCode_4_0 15 rfl rfl)
theorem dJ11_hashCode_4_17 : decode cJ11_hashCode_4 17 = .ok (.iload_n 0, 1) := dk_26 (dk_at dksJ11_hashCode_4_0 17 rfl rfl)
theorem dJ11_hashCode_4_18 : decode cJ11_hashCode_4 18 = .ok (.imul, 1) := dk_104 (dk_at dksJ11_hashCode_4_0 18 rfl rfl)
theorem dJ11_hashCode_4_19 : decode cJ11_hashCode_4 19 = .ok (.aload_n 1, 1) := dk_43 (dk_at dksJ11_hashCode_4_0 19 rfl rfl)
theorem dJ11_hashCode_4_20 : decode cJ11_hashCode_4 20 = .ok (.iload 5, 2) := dk_21 5 (dk_at dksJ11_hashCode_4_0 20 rfl rfl)
theorem dJ11_hashCode_4_22 : decode cJ11_hashCode_4 22 = .ok (.iaload, 1) := dk_46 (dk_at dksJ11_hashCode_4_0 22 rfl rfl)
theorem dJ11_hashCode_4_23 : decode cJ11_hashCode_4 23 = .ok (.iadd, 1) := dk_96 (dk_at dksJ11_hashCode_4_0 23 rfl rfl)
theorem dJ11_hashCode_4_24 : decode cJ11_hashCode_4 24 = .ok (.istore_n 0, 1) := dk_59 (dk_at dksJ11_hashCode_4_1 0 rfl rfl)
theorem dJ11_hashCode_4_25 : decode cJ11_hashCode_4 25 = .ok (.iinc 5 1, 3) := dk_132 5 1 (dk_at dksJ11_hashCode_4_1 1 rfl rfl)
theorem dJ11_hashCode_4_28 : decode cJ11_hashCode_4 28 = .ok (.goto (-20), 3) := dk_167 255 236 (dk_at dksJ11_hashCode_4_1 4 rfl rfl)
theorem dJ11_hashCode_4_31 : decode cJ11_hashCode_4 31 = .ok (.iload_n 0, 1) := dk_26 (dk_at dksJ11_hashCode_4_1 7 rfl rfl)
theorem dJ11_hashCode_4_32 : decode cJ11_hashCode_4 32 = .ok (.ireturn, 1) := dk_172 (dk_at dksJ11_hashCode_4_1 8 rfl rfl)
theorem q138 : (Jvm.Cond.initialized "jdk/internal/util/ArraysSupport") ∈ lw_all := lw_g (lw_at lw_m1 14 rfl) rfl
theorem q294 : (Jvm.Cond.static ({ cls := "jdk/internal/util/ArraysSupport", name := "newLength", desc := "(III)I" } : Jvm.MethodName)) ∈ lw_all := lw_g (lw_at lw_m1 170 rfl) rfl
theorem q295 : (Jvm.Cond.code ({ cls := "jdk/internal/util/ArraysSupport", name := "newLength", desc := "(III)I" } : Jvm.MethodName) prog_57_method_27_code (4 : Nat) (Option.some Jvm.ClassFile.FieldType.int)) ∈ lw_all := lw_g (lw_at lw_m1 171 rfl) rfl
theorem q296 : (Jvm.Cond.methodLink "jdk/internal/util/ArraysSupport" (194 : Nat) ({ cls := "java/lang/Math", name := "max", desc := "(II)I" } : Jvm.MethodName)) ∈ lw_all := lw_g (lw_at lw_m1 172 rfl) rfl
theorem q299 : (Jvm.Cond.constant "jdk/internal/util/ArraysSupport" (200 : Nat) (2147483639 : Int32)) ∈ lw_all := lw_g (lw_at lw_m1 175 rfl) rfl
theorem q300 : (Jvm.Cond.methodLink "jdk/internal/util/ArraysSupport" (201 : Nat) ({ cls := "jdk/internal/util/ArraysSupport", name := "hugeLength", desc := "(II)I" } : Jvm.MethodName)) ∈ lw_all := lw_g (lw_at lw_m1 176 rfl) rfl
theorem q301 : (Jvm.Cond.static ({ cls := "jdk/internal/util/ArraysSupport", name := "hugeLength", desc := "(II)I" } : Jvm.MethodName)) ∈ lw_all := lw_g (lw_at lw_m1 177 rfl) rfl
theorem q302 : (Jvm.Cond.code ({ cls := "jdk/internal/util/ArraysSupport", name := "hugeLength", desc := "(II)I" } : Jvm.MethodName) prog_57_method_28_code (3 : Nat) (Option.some Jvm.ClassFile.FieldType.int)) ∈ lw_all := lw_g (lw_at lw_m1 178 rfl) rfl
theorem q1091 : (Jvm.Cond.static ({ cls := "jdk/internal/util/ArraysSupport", name := "vectorizedHashCode", desc := "(Ljava/lang/Object;IIII)I" } : Jvm.MethodName)) ∈ lw_all := lw_g (lw_at lw_m5 7 rfl) rfl
theorem q1092 : (Jvm.Cond.code ({ cls := "jdk/internal/util/ArraysSupport", name := "vectorizedHashCode", desc := "(Ljava/lang/Object;IIII)I" } : Jvm.MethodName) prog_57_method_4_code (5 : Nat) (Option.some Jvm.ClassFile.FieldType.int)) ∈ lw_all := lw_g (lw_at lw_m5 8 rfl) rfl
theorem q1093 : (Jvm.Cond.classLink "jdk/internal/util/ArraysSupport" (60 : Nat) "[B") ∈ lw_all := lw_g (lw_at lw_m5 9 rfl) rfl
theorem q1094 : (Jvm.Cond.methodLink "jdk/internal/util/ArraysSupport" (62 : Nat) ({ cls := "jdk/internal/util/ArraysSupport", name := "signedHashCode", desc := "(I[BII)I" } : Jvm.MethodName)) ∈ lw_all := lw_g (lw_at lw_m5 10 rfl) rfl
theorem q1095 : (Jvm.Cond.static ({ cls := "jdk/internal/util/ArraysSupport", name := "signedHashCode", desc := "(I[BII)I" } : Jvm.MethodName)) ∈ lw_all := lw_g (lw_at lw_m5 11 rfl) rfl
theorem q1096 : (Jvm.Cond.code ({ cls := "jdk/internal/util/ArraysSupport", name := "signedHashCode", desc := "(I[BII)I" } : Jvm.MethodName) prog_57_method_5_code (6 : Nat) (Option.some Jvm.ClassFile.FieldType.int)) ∈ lw_all := lw_g (lw_at lw_m5 12 rfl) rfl
theorem q1097 : (Jvm.Cond.methodLink "jdk/internal/util/ArraysSupport" (66 : Nat) ({ cls := "jdk/internal/util/ArraysSupport", name := "utf16hashCode", desc := "(I[BII)I" } : Jvm.MethodName)) ∈ lw_all := lw_g (lw_at lw_m5 13 rfl) rfl
theorem q1098 : (Jvm.Cond.static ({ cls := "jdk/internal/util/ArraysSupport", name := "utf16hashCode", desc := "(I[BII)I" } : Jvm.MethodName)) ∈ lw_all := lw_g (lw_at lw_m5 14 rfl) rfl
theorem q1099 : (Jvm.Cond.code ({ cls := "jdk/internal/util/ArraysSupport", name := "utf16hashCode", desc := "(I[BII)I" } : Jvm.MethodName) prog_57_method_10_code (6 : Nat) (Option.some Jvm.ClassFile.FieldType.int)) ∈ lw_all := lw_g (lw_at lw_m5 15 rfl) rfl
theorem q1100 : (Jvm.Cond.fieldLink "jdk/internal/util/ArraysSupport" (106 : Nat) "jdk/internal/util/ArraysSupport" "JLA" "Ljdk/internal/access/JavaLangAccess;") ∈ lw_all := lw_g (lw_at lw_m5 16 rfl) rfl
theorem q1101 : (Jvm.Cond.laysStatic "jdk/internal/util/ArraysSupport" "JLA" "Ljdk/internal/access/JavaLangAccess;") ∈ lw_tbl := lw_at lw_m5 17 rfl
theorem q1102 : (Jvm.Cond.interfaceEntry "jdk/internal/util/ArraysSupport" (110 : Nat)) ∈ lw_tbl := lw_at lw_m5 18 rfl
theorem q1103 : (Jvm.Cond.methodLink "jdk/internal/util/ArraysSupport" (110 : Nat) ({ cls := "jdk/internal/access/JavaLangAccess", name := "getUTF16Char", desc := "([BI)C" } : Jvm.MethodName)) ∈ lw_all := lw_g (lw_at lw_m5 19 rfl) rfl
theorem q1113 : (Jvm.Cond.classLink "jdk/internal/util/ArraysSupport" (69 : Nat) "[C") ∈ lw_all := lw_g (lw_at lw_m5 29 rfl) rfl
theorem q1114 : (Jvm.Cond.methodLink "jdk/internal/util/ArraysSupport" (71 : Nat) ({ cls := "jdk/internal/util/ArraysSupport", name := "hashCode", desc := "(I[CII)I" } : Jvm.MethodName)) ∈ lw_all := lw_g (lw_at lw_m5 30 rfl) rfl
theorem q1115 : (Jvm.Cond.static ({ cls := "jdk/internal/util/ArraysSupport", name := "hashCode", desc := "(I[CII)I" } : Jvm.MethodName)) ∈ lw_all := lw_g (lw_at lw_m5 31 rfl) rfl
theorem q1116 : (Jvm.Cond.code ({ cls := "jdk/internal/util/ArraysSupport", name := "hashCode", desc := "(I[CII)I" } : Jvm.MethodName) prog_57_method_7_code (6 : Nat) (Option.some Jvm.ClassFile.FieldType.int)) ∈ lw_all := lw_g (lw_at lw_m5 32 rfl) rfl
theorem q1117 : (Jvm.Cond.methodLink "jdk/internal/util/ArraysSupport" (75 : Nat) ({ cls := "jdk/internal/util/ArraysSupport", name := "hashCode", desc := "(I[BII)I" } : Jvm.MethodName)) ∈ lw_all := lw_g (lw_at lw_m5 33 rfl) rfl
theorem q1118 : (Jvm.Cond.static ({ cls := "jdk/internal/util/ArraysSupport", name := "hashCode", desc := "(I[BII)I" } : Jvm.MethodName)) ∈ lw_all := lw_g (lw_at lw_m5 34 rfl) rfl
theorem q1119 : (Jvm.Cond.code ({ cls := "jdk/internal/util/ArraysSupport", name := "hashCode", desc := "(I[BII)I" } : Jvm.MethodName) prog_57_method_6_code (6 : Nat) (Option.some Jvm.ClassFile.FieldType.int)) ∈ lw_all := lw_g (lw_at lw_m5 35 rfl) rfl
theorem q1120 : (Jvm.Cond.classLink "jdk/internal/util/ArraysSupport" (77 : Nat) "[S") ∈ lw_all := lw_g (lw_at lw_m5 36 rfl) rfl
theorem q1121 : (Jvm.Cond.methodLink "jdk/internal/util/ArraysSupport" (79 : Nat) ({ cls := "jdk/internal/util/ArraysSupport", name := "hashCode", desc := "(I[SII)I" } : Jvm.MethodName)) ∈ lw_all := lw_g (lw_at lw_m5 37 rfl) rfl
theorem q1122 : (Jvm.Cond.static ({ cls := "jdk/internal/util/ArraysSupport", name := "hashCode", desc := "(I[SII)I" } : Jvm.MethodName)) ∈ lw_all := lw_g (lw_at lw_m5 38 rfl) rfl
theorem q1123 : (Jvm.Cond.code ({ cls := "jdk/internal/util/ArraysSupport", name := "hashCode", desc := "(I[SII)I" } : Jvm.MethodName) prog_57_method_8_code (6 : Nat) (Option.some Jvm.ClassFile.FieldType.int)) ∈ lw_all := lw_g (lw_at lw_m5 39 rfl) rfl
theorem q1124 : (Jvm.Cond.classLink "jdk/internal/util/ArraysSupport" (82 : Nat) "[I") ∈ lw_all := lw_g (lw_at lw_m5 40 rfl) rfl
theorem q1125 : (Jvm.Cond.methodLink "jdk/internal/util/ArraysSupport" (84 : Nat) ({ cls := "jdk/internal/util/ArraysSupport", name := "hashCode", desc := "(I[III)I" } : Jvm.MethodName)) ∈ lw_all := lw_g (lw_at lw_m5 41 rfl) rfl
theorem q1126 : (Jvm.Cond.static ({ cls := "jdk/internal/util/ArraysSupport", name := "hashCode", desc := "(I[III)I" } : Jvm.MethodName)) ∈ lw_all := lw_g (lw_at lw_m5 42 rfl) rfl
theorem q1127 : (Jvm.Cond.code ({ cls := "jdk/internal/util/ArraysSupport", name := "hashCode", desc := "(I[III)I" } : Jvm.MethodName) prog_57_method_9_code (6 : Nat) (Option.some Jvm.ClassFile.FieldType.int)) ∈ lw_all := lw_g (lw_at lw_m5 43 rfl) rfl
theorem q1128 : (Jvm.Cond.classLink "jdk/internal/util/ArraysSupport" (87 : Nat) "java/lang/IllegalArgumentException") ∈ lw_all := lw_g (lw_at lw_m5 44 rfl) rfl
theorem q1129 : (Jvm.Cond.classLink "jdk/internal/util/ArraysSupport" (89 : Nat) "java/lang/StringBuilder") ∈ lw_all := lw_g (lw_at lw_m5 45 rfl) rfl
theorem q1130 : (Jvm.Cond.methodLink "jdk/internal/util/ArraysSupport" (91 : Nat) ({ cls := "java/lang/StringBuilder", name := "<init>", desc := "()V" } : Jvm.MethodName)) ∈ lw_all := lw_g (lw_at lw_m5 46 rfl) rfl
theorem q1131 : (Jvm.Cond.stringRef "jdk/internal/util/ArraysSupport" (92 : Nat) "unrecognized basic type: ") ∈ lw_tbl := lw_at lw_m5 47 rfl
theorem q1132 : (Jvm.Cond.methodLink "jdk/internal/util/ArraysSupport" (94 : Nat) ({ cls := "java/lang/StringBuilder", name := "append", desc := "(Ljava/lang/String;)Ljava/lang/StringBuilder;" } : Jvm.MethodName)) ∈ lw_all := lw_g (lw_at lw_m5 48 rfl) rfl
theorem q1133 : (Jvm.Cond.methodLink "jdk/internal/util/ArraysSupport" (98 : Nat) ({ cls := "java/lang/StringBuilder", name := "append", desc := "(I)Ljava/lang/StringBuilder;" } : Jvm.MethodName)) ∈ lw_all := lw_g (lw_at lw_m5 49 rfl) rfl
theorem q1134 : (Jvm.Cond.methodLink "jdk/internal/util/ArraysSupport" (101 : Nat) ({ cls := "java/lang/StringBuilder", name := "toString", desc := "()Ljava/lang/String;" } : Jvm.MethodName)) ∈ lw_all := lw_g (lw_at lw_m5 50 rfl) rfl
theorem q1135 : (Jvm.Cond.methodLink "jdk/internal/util/ArraysSupport" (105 : Nat) ({ cls := "java/lang/IllegalArgumentException", name := "<init>", desc := "(Ljava/lang/String;)V" } : Jvm.MethodName)) ∈ lw_all := lw_g (lw_at lw_m5 51 rfl) rfl

def RJ12 : String := "java/lang/Math"
abbrev cJ12_max : ByteArray := prog_35_method_65_code
def yJ12_max : MethodName := ⟨RJ12, "max", "(II)I"⟩
def dkwJ12_max_0 : List UInt8 := [26, 27, 161, 0, 7, 26, 167, 0, 4, 27, 172]
abbrev dktJ12_max_0 : List UInt8 := dkwJ12_max_0 ++ []
theorem dksJ12_max_0 : cJ12_max.data.toList.drop 0 = dktJ12_max_0 := by decide +kernel
theorem dJ12_max_0 : decode cJ12_max 0 = .ok (.iload_n 0, 1) := dk_26 (dk_at dksJ12_max_0 0 rfl rfl)
theorem dJ12_max_1 : decode cJ12_max 1 = .ok (.iload_n 1, 1) := dk_27 (dk_at dksJ12_max_0 1 rfl rfl)
theorem dJ12_max_2 : decode cJ12_max 2 = .ok (.if_icmp .lt 7, 3) := dk_161 0 7 (dk_at dksJ12_max_0 2 rfl rfl)
theorem dJ12_max_5 : decode cJ12_max 5 = .ok (.iload_n 0, 1) := dk_26 (dk_at dksJ12_max_0 5 rfl rfl)
theorem dJ12_max_6 : decode cJ12_max 6 = .ok (.goto 4, 3) := dk_167 0 4 (dk_at dksJ12_max_0 6 rfl rfl)
theorem dJ12_max_9 : decode cJ12_max 9 = .ok (.iload_n 1, 1) := dk_27 (dk_at dksJ12_max_0 9 rfl rfl)
theorem dJ12_max_10 : decode cJ12_max 10 = .ok (.ireturn, 1) := dk_172 (dk_at dksJ12_max_0 10 rfl rfl)
abbrev cJ12_min : ByteArray := prog_35_method_69_code
def yJ12_min : MethodName := ⟨RJ12, "min", "(II)I"⟩
def dkwJ12_min_0 : List UInt8 := [26, 27, 163, 0, 7, 26, 167, 0, 4, 27, 172]
abbrev dktJ12_min_0 : List UInt8 := dkwJ12_min_0 ++ []
theorem dksJ12_min_0 : cJ12_min.data.toList.drop 0 = dktJ12_min_0 := by decide +kernel
theorem dJ12_min_0 : decode cJ12_min 0 = .ok (.iload_n 0, 1) := dk_26 (dk_at dksJ12_min_0 0 rfl rfl)
theorem dJ12_min_1 : decode cJ12_min 1 = .ok (.iload_n 1, 1) := dk_27 (dk_at dksJ12_min_0 1 rfl rfl)
theorem dJ12_min_2 : decode cJ12_min 2 = .ok (.if_icmp .gt 7, 3) := dk_163 0 7 (dk_at dksJ12_min_0 2 rfl rfl)
theorem dJ12_min_5 : decode cJ12_min 5 = .ok (.iload_n 0, 1) := dk_26 (dk_at dksJ12_min_0 5 rfl rfl)
theorem dJ12_min_6 : decode cJ12_min 6 = .ok (.goto 4, 3) := dk_167 0 4 (dk_at dksJ12_min_0 6 rfl rfl)
theorem dJ12_min_9 : decode cJ12_min 9 = .ok (.iload_n 1, 1) := dk_27 (dk_at dksJ12_min_0 9 rfl rfl)
theorem dJ12_min_10 : decode cJ12_min 10 = .ok (.ireturn, 1) := dk_172 (dk_at dksJ12_min_0 10 rfl rfl)
theorem q139 : (Jvm.Cond.initialized "java/lang/Math") ∈ lw_all := lw_g (lw_at lw_m1 15 rfl) rfl
theorem q297 : (Jvm.Cond.static ({ cls := "java/lang/Math", name := "max", desc := "(II)I" } : Jvm.MethodName)) ∈ lw_all := lw_g (lw_at lw_m1 173 rfl) rfl
theorem q298 : (Jvm.Cond.code ({ cls := "java/lang/Math", name := "max", desc := "(II)I" } : Jvm.MethodName) prog_35_method_65_code (2 : Nat) (Option.some Jvm.ClassFile.FieldType.int)) ∈ lw_all := lw_g (lw_at lw_m1 174 rfl) rfl
theorem q315 : (Jvm.Cond.static ({ cls := "java/lang/Math", name := "min", desc := "(II)I" } : Jvm.MethodName)) ∈ lw_all := lw_g (lw_at lw_m1 191 rfl) rfl
theorem q316 : (Jvm.Cond.code ({ cls := "java/lang/Math", name := "min", desc := "(II)I" } : Jvm.MethodName) prog_35_method_69_code (2 : Nat) (Option.some Jvm.ClassFile.FieldType.int)) ∈ lw_all := lw_g (lw_at lw_m1 192 rfl) rfl

def RJ13 : String := "java/util/Arrays"
abbrev cJ13_copyOf : ByteArray := prog_50_method_121_code
def yJ13_copyOf : MethodName := ⟨RJ13, "copyOf", "([BI)[B"⟩
def dkwJ13_copyOf_1 : List UInt8 := [27, 184, 1, 48, 184, 0, 150, 44, 176]
abbrev dktJ13_copyOf_1 : List UInt8 := dkwJ13_copyOf_1 ++ []
def dkwJ13_copyOf_0 : List UInt8 := [27, 42, 190, 160, 0, 11, 42, 182, 1, 54, 192, 1, 55, 176, 27, 188, 8, 77, 42, 3, 44, 3, 42, 190]
abbrev dktJ13_copyOf_0 : List UInt8 := dkwJ13_copyOf_0 ++ dktJ13_copyOf_1
theorem dksJ13_copyOf_0 : cJ13_copyOf.data.toList.drop 0 = dktJ13_copyOf_0 := by decide +kernel
theorem dksJ13_copyOf_1 : cJ13_copyOf.data.toList.drop 24 = dktJ13_copyOf_1 := dk_seg dksJ13_copyOf_0 24 rfl rfl
theorem dJ13_copyOf_0 : decode cJ13_copyOf 0 = .ok (.iload_n 1, 1) := dk_27 (dk_at dksJ13_copyOf_0 0 rfl rfl)
theorem dJ13_copyOf_1 : decode cJ13_copyOf 1 = .ok (.aload_n 0, 1) := dk_42 (dk_at dksJ13_copyOf_0 1 rfl rfl)
theorem dJ13_copyOf_2 : decode cJ13_copyOf 2 = .ok (.arraylength, 1) := dk_190 (dk_at dksJ13_copyOf_0 2 rfl rfl)
theorem dJ13_copyOf_3 : decode cJ13_copyOf 3 = .ok (.if_icmp .ne 11, 3) := dk_160 0 11 (dk_at dksJ13_copyOf_0 3 rfl rfl)
theorem dJ13_copyOf_6 : decode cJ13_copyOf 6 = .ok (.aload_n 0, 1) := dk_42 (dk_at dksJ13_copyOf_0 6 rfl rfl)
theorem dJ13_copyOf_7 : decode cJ13_copyOf 7 = .ok (.invokevirtual 310, 3) := dk_182 1 54 (dk_at dksJ13_copyOf_0 7 rfl rfl)
theorem dJ13_copyOf_10 : decode cJ13_copyOf 10 = .ok (.checkcast 311, 3) := dk_192 1 55 (dk_at dksJ13_copyOf_0 10 rfl rfl)
theorem dJ13_copyOf_13 : decode cJ13_copyOf 13 = .ok (.areturn, 1) := dk_176 (dk_at dksJ13_copyOf_0 13 rfl rfl)
theorem dJ13_copyOf_14 : decode cJ13_copyOf 14 = .ok (.iload_n 1, 1) := dk_27 (dk_at dksJ13_copyOf_0 14 rfl rfl)
theorem dJ13_copyOf_15 : decode cJ13_copyOf 15 = .ok (.newarray .byte, 2) := dk_188_8 (dk_at dksJ13_copyOf_0 15 rfl rfl)
theorem dJ13_copyOf_17 : decode cJ13_copyOf 17 = .ok (.astore_n 2, 1) := dk_77 (dk_at dksJ13_copyOf_0 17 rfl rfl)
theorem dJ13_copyOf_18 : decode cJ13_copyOf 18 = .ok (.aload_n 0, 1) := dk_42 (dk_at dksJ13_copyOf_0 18 rfl rfl)
theorem dJ13_copyOf_19 : decode cJ13_copyOf 19 = .ok (.iconst 0, 1) := dk_3 (dk_at dksJ13_copyOf_0 19 rfl rfl)
theorem dJ13_copyOf_20 : decode cJ13_copyOf 20 = .ok (.aload_n 2, 1) := dk_44 (dk_at dksJ13_copyOf_0 20 rfl rfl)
theorem dJ13_copyOf_21 : decode cJ13_copyOf 21 = .ok (.iconst 0, 1) := dk_3 (dk_at dksJ13_copyOf_0 21 rfl rfl)
theorem dJ13_copyOf_22 : decode cJ13_copyOf 22 = .ok (.aload_n 0, 1) := dk_42 (dk_at dksJ13_copyOf_0 22 rfl rfl)
theorem dJ13_copyOf_23 : decode cJ13_copyOf 23 = .ok (.arraylength, 1) := dk_190 (dk_at dksJ13_copyOf_0 23 rfl rfl)
theorem dJ13_copyOf_24 : decode cJ13_copyOf 24 = .ok (.iload_n 1, 1) := dk_27 (dk_at dksJ13_copyOf_1 0 rfl rfl)
theorem dJ13_copyOf_25 : decode cJ13_copyOf 25 = .ok (.invokestatic 304, 3) := dk_184 1 48 (dk_at dksJ13_copyOf_1 1 rfl rfl)
theorem dJ13_copyOf_28 : decode cJ13_copyOf 28 = .ok (.invokestatic 150, 3) := dk_184 0 150 (dk_at dksJ13_copyOf_1 4 rfl rfl)
theorem dJ13_copyOf_31 : decode cJ13_copyOf 31 = .ok (.aload_n 2, 1) := dk_44 (dk_at dksJ13_copyOf_1 7 rfl rfl)
theorem dJ13_copyOf_32 : decode cJ13_copyOf 32 = .ok (.areturn, 1) := dk_176 (dk_at dksJ13_copyOf_1 8 rfl rfl)
abbrev cJ13_copyOfRange : ByteArray := prog_50_method_132_code
def yJ13_copyOfRange : MethodName := ⟨RJ13, "copyOfRange", "([BII)[B"⟩
def dkwJ13_copyOfRange_1 : List UInt8 := [176]
abbrev dktJ13_copyOfRange_1 : List UInt8 := dkwJ13_copyOfRange_1 ++ []
def dkwJ13_copyOfRange_0 : List UInt8 := [27, 154, 0, 9, 28, 42, 190, 159, 0, 10, 42, 27, 28, 184, 1, 83, 176, 42, 182, 1, 54, 192, 1, 55]
abbrev dktJ13_copyOfRange_0 : List UInt8 := dkwJ13_copyOfRange_0 ++ dktJ13_copyOfRange_1
theorem dksJ13_copyOfRange_0 : cJ13_copyOfRange.data.toList.drop 0 = dktJ13_copyOfRange_0 := by decide +kernel
theorem dksJ13_copyOfRange_1 : cJ13_copyOfRange.data.toList.drop 24 = dktJ13_copyOfRange_1 := dk_seg dksJ13_copyOfRange_0 24 rfl rfl
theorem dJ13_copyOfRange_0 : decode cJ13_copyOfRange 0 = .ok (.iload_n 1, 1) := dk_27 (dk_at dksJ13_copyOfRange_0 0 rfl rfl)
theorem dJ13_copyOfRange_1 : decode cJ13_copyOfRange 1 = .ok (.ifCond .ne 9, 3) := dk_154 0 9 (dk_at dksJ13_copyOfRange_0 1 rfl rfl)
theorem dJ13_copyOfRange_4 : decode cJ13_copyOfRange 4 = .ok (.iload_n 2, 1) := dk_28 (dk_at dksJ13_copyOfRange_0 4 rfl rfl)
theorem dJ13_copyOfRange_5 : decode cJ13_copyOfRange 5 = .ok (.aload_n 0, 1) := dk_42 (dk_at dksJ13_copyOfRange_0 5 rfl rfl)
theorem dJ13_copyOfRange_6 : decode cJ13_copyOfRange 6 = .ok (.arraylength, 1) := dk_190 (dk_at dksJ13_copyOfRange_0 6 rfl rfl)
theorem dJ13_copyOfRange_7 : decode cJ13_copyOfRange 7 = .ok (.if_icmp .eq 10, 3) := dk_159 0 10 (dk_at dksJ13_copyOfRange_0 7 rfl rfl)
theorem dJ13_copyOfRange_10 : decode cJ13_copyOfRange 10 = .ok (.aload_n 0, 1) := dk_42 (dk_at dksJ13_copyOfRange_0 10 rfl rfl)
theorem dJ13_copyOfRange_11 : decode cJ13_copyOfRange 11 = .ok (.iload_n 1, 1) := dk_27 (dk_at dksJ13_copyOfRange_0 11 rfl rfl)
theorem dJ13_copyOfRange_12 : decode cJ13_copyOfRange 12 = .ok (.iload_n 2, 1) := dk_28 (dk_at dksJ13_copyOfRange_0 12 rfl rfl)
theorem dJ13_copyOfRange_13 : decode cJ13_copyOfRange 13 = .ok (.invokestatic 339, 3) := dk_184 1 83 (dk_at dksJ13_copyOfRange_0 13 rfl rfl)
theorem dJ13_copyOfRange_16 : decode cJ13_copyOfRange 16 = .ok (.areturn, 1) := dk_176 (dk_at dksJ13_copyOfRange_0 16 rfl rfl)
theorem dJ13_copyOfRange_17 : decode cJ13_copyOfRange 17 = .ok (.aload_n 0, 1) := dk_42 (dk_at dksJ13_copyOfRange_0 17 rfl rfl)
theorem dJ13_copyOfRange_18 : decode cJ13_copyOfRange 18 = .ok (.invokevirtual 310, 3) := dk_182 1 54 (dk_at dksJ13_copyOfRange_0 18 rfl rfl)
theorem dJ13_copyOfRange_21 : decode cJ13_copyOfRange 21 = .ok (.checkcast 311, 3) := dk_192 1 55 (dk_at dksJ13_copyOfRange_0 21 rfl rfl)
theorem dJ13_copyOfRange_24 : decode cJ13_copyOfRange 24 = .ok (.areturn, 1) := dk_176 (dk_at dksJ13_copyOfRange_1 0 rfl rfl)
abbrev cJ13_copyOfRangeByte : ByteArray := prog_50_method_133_code
def yJ13_copyOfRangeByte : MethodName := ⟨RJ13, "copyOfRangeByte", "([BII)[B"⟩
def dkwJ13_copyOfRangeByte_1 : List UInt8 := [184, 1, 48, 184, 0, 150, 25, 4, 176]
abbrev dktJ13_copyOfRangeByte_1 : List UInt8 := dkwJ13_copyOfRangeByte_1 ++ []
def dkwJ13_copyOfRangeByte_0 : List UInt8 := [27, 28, 184, 1, 87, 28, 27, 100, 62, 29, 188, 8, 58, 4, 42, 27, 25, 4, 3, 42, 190, 27, 100, 29]
abbrev dktJ13_copyOfRangeByte_0 : List UInt8 := dkwJ13_copyOfRangeByte_0 ++ dktJ13_copyOfRangeByte_1
theorem dksJ13_copyOfRangeByte_0 : cJ13_copyOfRangeByte.data.toList.drop 0 = dktJ13_copyOfRangeByte_0 := by decide +kernel
theorem dksJ13_copyOfRangeByte_1 : cJ13_copyOfRangeByte.data.toList.drop 24 = dktJ13_copyOfRangeByte_1 := dk_seg dksJ13_copyOfRangeByte_0 24 rfl rfl
theorem dJ13_copyOfRangeByte_0 : decode cJ13_copyOfRangeByte 0 = .ok (.iload_n 1, 1) := dk_27 (dk_at dksJ13_copyOfRangeByte_0 0 rfl rfl)
theorem dJ13_copyOfRangeByte_1 : decode cJ13_copyOfRangeByte 1 = .ok (.iload_n 2, 1) := dk_28 (dk_at dksJ13_copyOfRangeByte_0 1 rfl rfl)
theorem dJ13_copyOfRangeByte_2 : decode cJ13_copyOfRangeByte 2 = .ok (.invokestatic 343, 3) := dk_184 1 87 (dk_at dksJ13_copyOfRangeByte_0 2 rfl rfl)
theorem dJ13_copyOfRangeByte_5 : decode cJ13_copyOfRangeByte 5 = .ok (.iload_n 2, 1) := dk_28 (dk_at dksJ13_copyOfRangeByte_0 5 rfl rfl)
theorem dJ13_copyOfRangeByte_6 : decode cJ13_copyOfRangeByte 6 = .ok (.iload_n 1, 1) := dk_27 (dk_at dksJ13_copyOfRangeByte_0 6 rfl rfl)
theorem dJ13_copyOfRangeByte_7 : decode cJ13_copyOfRangeByte 7 = .ok (.isub, 1) := dk_100 (dk_at dksJ13_copyOfRangeByte_0 7 rfl rfl)
theorem dJ13_copyOfRangeByte_8 : decode cJ13_copyOfRangeByte 8 = .ok (.istore_n 3, 1) := dk_62 (dk_at dksJ13_copyOfRangeByte_0 8 rfl rfl)
theorem dJ13_copyOfRangeByte_9 : decode cJ13_copyOfRangeByte 9 = .ok (.iload_n 3, 1) := dk_29 (dk_at dksJ13_copyOfRangeByte_0 9 rfl rfl)
theorem dJ13_copyOfRangeByte_10 : decode cJ13_copyOfRangeByte 10 = .ok (.newarray .byte, 2) := dk_188_8 (dk_at dksJ13_copyOfRangeByte_0 10 rfl rfl)
theorem dJ13_copyOfRangeByte_12 : decode cJ13_copyOfRangeByte 12 = .ok (.astore 4, 2) := dk_58 4 (dk_at dksJ13_copyOfRangeByte_0 12 rfl rfl)
theorem dJ13_copyOfRangeByte_14 : decode cJ13_copyOfRangeByte 14 = .ok (.aload_n 0, 1) := dk_42 (dk_at dksJ13_copyOfRangeByte_0 14 rfl rfl)
theorem dJ13_copyOfRangeByte_15 : decode cJ13_copyOfRangeByte 15 = .ok (.iload_n 1, 1) := dk_27 (dk_at dksJ13_copyOfRangeByte_0 15 rfl rfl)
theorem dJ13_copyOfRangeByte_16 : decode cJ13_copyOfRangeByte 16 = .ok (.aload 4, 2) := dk_25 4 (dk_at dksJ13_copyOfRangeByte_0 16 rfl rfl)
theorem dJ13_copyOfRangeByte_18 : decode cJ13_copyOfRangeByte 18 = .ok (.iconst 0, 1) := dk_3 (dk_at dksJ13_copyOfRangeByte_0 18 rfl rfl)
theorem dJ13_copyOfRangeByte_19 : decode cJ13_copyOfRangeByte 19 = .ok (.aload_n 0, 1) := dk_42 (dk_at dksJ13_copyOfRangeByte_0 19 rfl rfl)
theorem dJ13_copyOfRangeByte_20 : decode cJ13_copyOfRangeByte 20 = .ok (.arraylength, 1) := dk_190 (dk_at dksJ13_copyOfRangeByte_0 20 rfl rfl)
theorem dJ13_copyOfRangeByte_21 : decode cJ13_copyOfRangeByte 21 = .ok (.iload_n 1, 1) := dk_27 (dk_at dksJ13_copyOfRangeByte_0 21 rfl rfl)
theorem dJ13_copyOfRangeByte_22 : decode cJ13_copyOfRangeByte 22 = .ok (.isub, 1) := dk_100 (dk_at dksJ13_copyOfRangeByte_0 22 rfl rfl)
theorem dJ13_copyOfRangeByte_23 : decode cJ13_copyOfRangeByte 23 = .ok (.iload_n 3, 1) := dk_29 (dk_at dksJ13_copyOfRangeByte_0 23 rfl rfl)
theorem dJ13_copyOfRangeByte_24 : decode cJ13_copyOfRangeByte 24 = .ok (.invokestatic 304, 3) := dk_184 1 48 (dk_at dksJ13_copyOfRangeByte_1 0 rfl rfl)
theorem dJ13_copyOfRangeByte_27 : decode cJ13_copyOfRangeByte 27 = .ok (.invokestatic 150, 3) := dk_184 0 150 (dk_at dksJ13_copyOfRangeByte_1 3 rfl rfl)
theorem dJ13_copyOfRangeByte_30 : decode cJ13_copyOfRangeByte 30 = .ok (.aload 4, 2) := dk_25 4 (dk_at dksJ13_copyOfRangeByte_1 6 rfl rfl)
theorem dJ13_copyOfRangeByte_32 : decode cJ13_copyOfRangeByte 32 = .ok (.areturn, 1) := dk_176 (dk_at dksJ13_copyOfRangeByte_1 8 rfl rfl)
abbrev cJ13_checkLength : ByteArray := prog_50_method_131_code
def yJ13_checkLength : MethodName := ⟨RJ13, "checkLength", "(II)V"⟩
def dkwJ13_checkLength_1 : List UInt8 := [182, 0, 50, 27, 182, 0, 54, 182, 0, 61, 183, 0, 65, 191, 177]
abbrev dktJ13_checkLength_1 : List UInt8 := dkwJ13_checkLength_1 ++ []
def dkwJ13_checkLength_0 : List UInt8 := [27, 26, 162, 0, 35, 187, 0, 43, 89, 187, 0, 45, 89, 183, 0, 47, 26, 182, 0, 54, 19, 1, 81]
abbrev dktJ13_checkLength_0 : List UInt8 := dkwJ13_checkLength_0 ++ dktJ13_checkLength_1
theorem dksJ13_checkLength_0 : cJ13_checkLength.data.toList.drop 0 = dktJ13_checkLength_0 := by decide +kernel
theorem dksJ13_checkLength_1 : cJ13_checkLength.data.toList.drop 23 = dktJ13_checkLength_1 := dk_seg dksJ13_checkLength_0 23 rfl rfl
theorem dJ13_checkLength_0 : decode cJ13_checkLength 0 = .ok (.iload_n 1, 1) := dk_27 (dk_at dksJ13_checkLength_0 0 rfl rfl)
theorem dJ13_checkLength_1 : decode cJ13_checkLength 1 = .ok (.iload_n 0, 1) := dk_26 (dk_at dksJ13_checkLength_0 1 rfl rfl)
theorem dJ13_checkLength_2 : decode cJ13_checkLength 2 = .ok (.if_icmp .ge 35, 3) := dk_162 0 35 (dk_at dksJ13_checkLength_0 2 rfl rfl)
theorem dJ13_checkLength_5 : decode cJ13_checkLength 5 = .ok (.new 43, 3) := dk_187 0 43 (dk_at dksJ13_checkLength_0 5 rfl rfl)
theorem dJ13_checkLength_8 : decode cJ13_checkLength 8 = .ok (.dup, 1) := dk_89 (dk_at dksJ13_checkLength_0 8 rfl rfl)
theorem dJ13_checkLength_9 : decode cJ13_checkLength 9 = .ok (.new 45, 3) := dk_187 0 45 (dk_at dksJ13_checkLength_0 9 rfl rfl)
theorem dJ13_checkLength_12 : decode cJ13_checkLength 12 = .ok (.dup, 1) := dk_89 (dk_at dksJ13_checkLength_0 12 rfl rfl)
theorem dJ13_checkLength_13 : decode cJ13_checkLength 13 = .ok (.invokespecial 47, 3) := dk_183 0 47 (dk_at dksJ13_checkLength_0 13 rfl rfl)
theorem dJ13_checkLength_16 : decode cJ13_checkLength 16 = .ok (.iload_n 0, 1) := dk_26 (dk_at dksJ13_checkLength_0 16 rfl rfl)
theorem dJ13_checkLength_17 : decode cJ13_checkLength 17 = .ok (.invokevirtual 54, 3) := dk_182 0 54 (dk_at dksJ13_checkLength_0 17 rfl rfl)
theorem dJ13_checkLength_20 : decode cJ13_checkLength 20 = .ok (.ldc_w 337, 3) := dk_19 1 81 (dk_at dksJ13_checkLength_0 20 rfl rfl)
theorem dJ13_checkLength_23 : decode cJ13_checkLength 23 = .ok (.invokevirtual 50, 3) := dk_182 0 50 (dk_at dksJ13_checkLength_1 0 rfl rfl)
theorem dJ13_checkLength_26 : decode cJ13_checkLength 26 = .ok (.iload_n 1, 1) := dk_27 (dk_at dksJ13_checkLength_1 3 rfl rfl)
theorem dJ13_checkLength_27 : decode cJ13_checkLength 27 = .ok (.invokevirtual 54, 3) := dk_182 0 54 (dk_at dksJ13_checkLength_1 4 rfl rfl)
theorem dJ13_checkLength_30 : decode cJ13_checkLength 30 = .ok (.invokevirtual 61, 3) := dk_182 0 61 (dk_at dksJ13_checkLength_1 7 rfl rfl)
theorem dJ13_checkLength_33 : decode cJ13_checkLength 33 = .ok (.invokespecial 65, 3) := dk_183 0 65 (dk_at dksJ13_checkLength_1 10 rfl rfl)
theorem dJ13_checkLength_36 : decode cJ13_checkLength 36 = .ok (.athrow, 1) := dk_191 (dk_at dksJ13_checkLength_1 13 rfl rfl)
theorem dJ13_checkLength_37 : decode cJ13_checkLength 37 = .ok (.return_, 1) := dk_177 (dk_at dksJ13_checkLength_1 14 rfl rfl)
abbrev cJ13_copyOf_2 : ByteArray := prog_50_method_119_code
def yJ13_copyOf_2 : MethodName := ⟨RJ13, "copyOf", "([Ljava/lang/Object;I)[Ljava/lang/Object;"⟩
def dkwJ13_copyOf_2_0 : List UInt8 := [42, 27, 42, 182, 0, 86, 184, 1, 44, 176]
abbrev dktJ13_copyOf_2_0 : List UInt8 := dkwJ13_copyOf_2_0 ++ []
theorem dksJ13_copyOf_2_0 : cJ13_copyOf_2.data.toList.drop 0 = dktJ13_copyOf_2_0 := by decide +kernel
theorem dJ13_copyOf_2_0 : decode cJ13_copyOf_2 0 = .ok (.aload_n 0, 1) := dk_42 (dk_at dksJ13_copyOf_2_0 0 rfl rfl)
theorem dJ13_copyOf_2_1 : decode cJ13_copyOf_2 1 = .ok (.iload_n 1, 1) := dk_27 (dk_at dksJ13_copyOf_2_0 1 rfl rfl)
theorem dJ13_copyOf_2_2 : decode cJ13_copyOf_2 2 = .ok (.aload_n 0, 1) := dk_42 (dk_at dksJ13_copyOf_2_0 2 rfl rfl)
theorem dJ13_copyOf_2_3 : decode cJ13_copyOf_2 3 = .ok (.invokevirtual 86, 3) := dk_182 0 86 (dk_at dksJ13_copyOf_2_0 3 rfl rfl)
theorem dJ13_copyOf_2_6 : decode cJ13_copyOf_2 6 = .ok (.invokestatic 300, 3) := dk_184 1 44 (dk_at dksJ13_copyOf_2_0 6 rfl rfl)
theorem dJ13_copyOf_2_9 : decode cJ13_copyOf_2 9 = .ok (.areturn, 1) := dk_176 (dk_at dksJ13_copyOf_2_0 9 rfl rfl)
abbrev cJ13_copyOf_3 : ByteArray := prog_50_method_120_code
def yJ13_copyOf_3 : MethodName := ⟨RJ13, "copyOf", "([Ljava/lang/Object;ILjava/lang/Class;)[Ljava/lang/Object;"⟩
def dkwJ13_copyOf_3_1 : List UInt8 := [78, 42, 3, 45, 3, 42, 190, 27, 184, 1, 48, 184, 0, 150, 45, 176]
abbrev dktJ13_copyOf_3_1 : List UInt8 := dkwJ13_copyOf_3_1 ++ []
def dkwJ13_copyOf_3_0 : List UInt8 := [44, 18, 110, 166, 0, 10, 27, 189, 0, 2, 167, 0, 14, 44, 182, 0, 90, 27, 184, 0, 95, 192, 0, 110]
abbrev dktJ13_copyOf_3_0 : List UInt8 := dkwJ13_copyOf_3_0 ++ dktJ13_copyOf_3_1
theorem dksJ13_copyOf_3_0 : cJ13_copyOf_3.data.toList.drop 0 = dktJ13_copyOf_3_0 := by decide +kernel
theorem dksJ13_copyOf_3_1 : cJ13_copyOf_3.data.toList.drop 24 = dktJ13_copyOf_3_1 := dk_seg dksJ13_copyOf_3_0 24 rfl rfl
theorem dJ13_copyOf_3_0 : decode cJ13_copyOf_3 0 = .ok (.aload_n 2, 1) := dk_44 (dk_at dksJ13_copyOf_3_0 0 rfl rfl)
theorem dJ13_copyOf_3_1 : decode cJ13_copyOf_3 1 = .ok (.ldc 110, 2) := dk_18 110 (dk_at dksJ13_copyOf_3_0 1 rfl rfl)
theorem dJ13_copyOf_3_3 : decode cJ13_copyOf_3 3 = .ok (.if_acmp .ne 10, 3) := dk_166 0 10 (dk_at dksJ13_copyOf_3_0 3 rfl rfl)
theorem dJ13_copyOf_3_6 : decode cJ13_copyOf_3 6 = .ok (.iload_n 1, 1) := dk_27 (dk_at dksJ13_copyOf_3_0 6 rfl rfl)
theorem dJ13_copyOf_3_7 : decode cJ13_copyOf_3 7 = .ok (.anewarray 2, 3) := dk_189 0 2 (dk_at dksJ13_copyOf_3_0 7 rfl rfl)
theorem dJ13_copyOf_3_10 : decode cJ13_copyOf_3 10 = .ok (.goto 14, 3) := dk_167 0 14 (dk_at dksJ13_copyOf_3_0 10 rfl rfl)
theorem dJ13_copyOf_3_13 : decode cJ13_copyOf_3 13 = .ok (.aload_n 2, 1) := dk_44 (dk_at dksJ13_copyOf_3_0 13 rfl rfl)
theorem dJ13_copyOf_3_14 : decode cJ13_copyOf_3 14 = .ok (.invokevirtual 90, 3) := dk_182 0 90 (dk_at dksJ13_copyOf_3_0 14 rfl rfl)
theorem dJ13_copyOf_3_17 : decode cJ13_copyOf_3 17 = .ok (.iload_n 1, 1) := dk_27 (dk_at dksJ13_copyOf_3_0 17 rfl rfl)
theorem dJ13_copyOf_3_18 : decode cJ13_copyOf_3 18 = .ok (.invokestatic 95, 3) := dk_184 0 95 (dk_at dksJ13_copyOf_3_0 18 rfl rfl)
theorem dJ13_copyOf_3_21 : decode cJ13_copyOf_3 21 = .ok (.checkcast 110, 3) := dk_192 0 110 (dk_at dksJ13_copyOf_3_0 21 rfl rfl)
theorem dJ13_copyOf_3_24 : decode cJ13_copyOf_3 24 = .ok (.astore_n 3, 1) := dk_78 (dk_at dksJ13_copyOf_3_1 0 rfl rfl)
theorem dJ13_copyOf_3_25 : decode cJ13_copyOf_3 25 = .ok (.aload_n 0, 1) := dk_42 (dk_at dksJ13_copyOf_3_1 1 rfl rfl)
theorem dJ13_copyOf_3_26 : decode cJ13_copyOf_3 26 = .ok (.iconst 0, 1) := dk_3 (dk_at dksJ13_copyOf_3_1 2 rfl rfl)
theorem dJ13_copyOf_3_27 : decode cJ13_copyOf_3 27 = .ok (.aload_n 3, 1) := dk_45 (dk_at dksJ13_copyOf_3_1 3 rfl rfl)
theorem dJ13_copyOf_3_28 : decode cJ13_copyOf_3 28 = .ok (.iconst 0, 1) := dk_3 (dk_at dksJ13_copyOf_3_1 4 rfl rfl)
theorem dJ13_copyOf_3_29 : decode cJ13_copyOf_3 29 = .ok (.aload_n 0, 1) := dk_42 (dk_at dksJ13_copyOf_3_1 5 rfl rfl)
theorem dJ13_copyOf_3_30 : decode cJ13_copyOf_3 30 = .ok (.arraylength, 1) := dk_190 (dk_at dksJ13_copyOf_3_1 6 rfl rfl)
theorem dJ13_copyOf_3_31 : decode cJ13_copyOf_3 31 = .ok (.iload_n 1, 1) := dk_27 (dk_at dksJ13_copyOf_3_1 7 rfl rfl)
theorem dJ13_copyOf_3_32 : decode cJ13_copyOf_3 32 = .ok (.invokestatic 304, 3) := dk_184 1 48 (dk_at dksJ13_copyOf_3_1 8 rfl rfl)
theorem dJ13_copyOf_3_35 : decode cJ13_copyOf_3 35 = .ok (.invokestatic 150, 3) := dk_184 0 150 (dk_at dksJ13_copyOf_3_1 11 rfl rfl)
theorem dJ13_copyOf_3_38 : decode cJ13_copyOf_3 38 = .ok (.aload_n 3, 1) := dk_45 (dk_at dksJ13_copyOf_3_1 14 rfl rfl)
theorem dJ13_copyOf_3_39 : decode cJ13_copyOf_3 39 = .ok (.areturn, 1) := dk_176 (dk_at dksJ13_copyOf_3_1 15 rfl rfl)
theorem q140 : (Jvm.Cond.initialized "java/util/Arrays") ∈ lw_all := lw_g (lw_at lw_m1 16 rfl) rfl
theorem q305 : (Jvm.Cond.static ({ cls := "java/util/Arrays", name := "copyOf", desc := "([BI)[B" } : Jvm.MethodName)) ∈ lw_all := lw_g (lw_at lw_m1 181 rfl) rfl
theorem q306 : (Jvm.Cond.code ({ cls := "java/util/Arrays", name := "copyOf", desc := "([BI)[B" } : Jvm.MethodName) prog_50_method_121_code (3 : Nat) (Option.some (Jvm.ClassFile.FieldType.array Jvm.ClassFile.FieldType.byte))) ∈ lw_all := lw_g (lw_at lw_m1 182 rfl) rfl
theorem q307 : (Jvm.Cond.methodLink "java/util/Arrays" (310 : Nat) ({ cls := "[B", name := "clone", desc := "()Ljava/lang/Object;" } : Jvm.MethodName)) ∈ lw_all := lw_g (lw_at lw_m1 183 rfl) rfl
theorem q313 : (Jvm.Cond.classLink "java/util/Arrays" (311 : Nat) "[B") ∈ lw_all := lw_g (lw_at lw_m1 189 rfl) rfl
theorem q314 : (Jvm.Cond.methodLink "java/util/Arrays" (304 : Nat) ({ cls := "java/lang/Math", name := "min", desc := "(II)I" } : Jvm.MethodName)) ∈ lw_all := lw_g (lw_at lw_m1 190 rfl) rfl
theorem q317 : (Jvm.Cond.methodLink "java/util/Arrays" (150 : Nat) ({ cls := "java/lang/System", name := "arraycopy", desc := "(Ljava/lang/Object;ILjava/lang/Object;II)V" } : Jvm.MethodName)) ∈ lw_all := lw_g (lw_at lw_m1 193 rfl) rfl
theorem q447 : (Jvm.Cond.static ({ cls := "java/util/Arrays", name := "copyOfRange", desc := "([BII)[B" } : Jvm.MethodName)) ∈ lw_all := lw_g (lw_at lw_m2 83 rfl) rfl
theorem q448 : (Jvm.Cond.code ({ cls := "java/util/Arrays", name := "copyOfRange", desc := "([BII)[B" } : Jvm.MethodName) prog_50_method_132_code (3 : Nat) (Option.some (Jvm.ClassFile.FieldType.array Jvm.ClassFile.FieldType.byte))) ∈ lw_all := lw_g (lw_at lw_m2 84 rfl) rfl
theorem q449 : (Jvm.Cond.methodLink "java/util/Arrays" (339 : Nat) ({ cls := "java/util/Arrays", name := "copyOfRangeByte", desc := "([BII)[B" } : Jvm.MethodName)) ∈ lw_all := lw_g (lw_at lw_m2 85 rfl) rfl
theorem q450 : (Jvm.Cond.static ({ cls := "java/util/Arrays", name := "copyOfRangeByte", desc := "([BII)[B" } : Jvm.MethodName)) ∈ lw_all := lw_g (lw_at lw_m2 86 rfl) rfl
theorem q451 : (Jvm.Cond.code ({ cls := "java/util/Arrays", name := "copyOfRangeByte", desc := "([BII)[B" } : Jvm.MethodName) prog_50_method_133_code (5 : Nat) (Option.some (Jvm.ClassFile.FieldType.array Jvm.ClassFile.FieldType.byte))) ∈ lw_all := lw_g (lw_at lw_m2 87 rfl) rfl
theorem q452 : (Jvm.Cond.methodLink "java/util/Arrays" (343 : Nat) ({ cls := "java/util/Arrays", name := "checkLength", desc := "(II)V" } : Jvm.MethodName)) ∈ lw_all := lw_g (lw_at lw_m2 88 rfl) rfl
theorem q453 : (Jvm.Cond.static ({ cls := "java/util/Arrays", name := "checkLength", desc := "(II)V" } : Jvm.MethodName)) ∈ lw_all := lw_g (lw_at lw_m2 89 rfl) rfl
theorem q454 : (Jvm.Cond.code ({ cls := "java/util/Arrays", name := "checkLength", desc := "(II)V" } : Jvm.MethodName) prog_50_method_131_code (2 : Nat) (Option.none : Option Jvm.ClassFile.FieldType)) ∈ lw_all := lw_g (lw_at lw_m2 90 rfl) rfl
theorem q455 : (Jvm.Cond.classLink "java/util/Arrays" (43 : Nat) "java/lang/IllegalArgumentException") ∈ lw_all := lw_g (lw_at lw_m2 91 rfl) rfl
theorem q456 : (Jvm.Cond.classLink "java/util/Arrays" (45 : Nat) "java/lang/StringBuilder") ∈ lw_all := lw_g (lw_at lw_m2 92 rfl) rfl
theorem q457 : (Jvm.Cond.methodLink "java/util/Arrays" (47 : Nat) ({ cls := "java/lang/StringBuilder", name := "<init>", desc := "()V" } : Jvm.MethodName)) ∈ lw_all := lw_g (lw_at lw_m2 93 rfl) rfl
theorem q458 : (Jvm.Cond.methodLink "java/util/Arrays" (54 : Nat) ({ cls := "java/lang/StringBuilder", name := "append", desc := "(I)Ljava/lang/StringBuilder;" } : Jvm.MethodName)) ∈ lw_all := lw_g (lw_at lw_m2 94 rfl) rfl
theorem q459 : (Jvm.Cond.stringRef "java/util/Arrays" (337 : Nat) " > ") ∈ lw_tbl := lw_at lw_m2 95 rfl
theorem q460 : (Jvm.Cond.methodLink "java/util/Arrays" (50 : Nat) ({ cls := "java/lang/StringBuilder", name := "append", desc := "(Ljava/lang/String;)Ljava/lang/StringBuilder;" } : Jvm.MethodName)) ∈ lw_all := lw_g (lw_at lw_m2 96 rfl) rfl
theorem q461 : (Jvm.Cond.methodLink "java/util/Arrays" (61 : Nat) ({ cls := "java/lang/StringBuilder", name := "toString", desc := "()Ljava/lang/String;" } : Jvm.MethodName)) ∈ lw_all := lw_g (lw_at lw_m2 97 rfl) rfl
theorem q462 : (Jvm.Cond.methodLink "java/util/Arrays" (65 : Nat) ({ cls := "java/lang/IllegalArgumentException", name := "<init>", desc := "(Ljava/lang/String;)V" } : Jvm.MethodName)) ∈ lw_all := lw_g (lw_at lw_m2 98 rfl) rfl
theorem q1280 : (Jvm.Cond.static ({ cls := "java/util/Arrays", name := "copyOf", desc := "([Ljava/lang/Object;I)[Ljava/lang/Object;" } : Jvm.MethodName)) ∈ lw_all := lw_g (lw_at lw_m5 196 rfl) rfl
theorem q1281 : (Jvm.Cond.code ({ cls := "java/util/Arrays", name := "copyOf", desc := "([Ljava/lang/Object;I)[Ljava/lang/Object;" } : Jvm.MethodName) prog_50_method_119_code (2 : Nat) (Option.some (Jvm.ClassFile.FieldType.array (Jvm.ClassFile.FieldType.object "java/lang/Object")))) ∈ lw_all := lw_g (lw_at lw_m5 197 rfl) rfl
theorem q1282 : (Jvm.Cond.methodLink "java/util/Arrays" (86 : Nat) ({ cls := "java/lang/Object", name := "getClass", desc := "()Ljava/lang/Class;" } : Jvm.MethodName)) ∈ lw_all := lw_g (lw_at lw_m5 198 rfl) rfl
theorem q1311 : (Jvm.Cond.methodLink "java/util/Arrays" (300 : Nat) ({ cls := "java/util/Arrays", name := "copyOf", desc := "([Ljava/lang/Object;ILjava/lang/Class;)[Ljava/lang/Object;" } : Jvm.MethodName)) ∈ lw_all := lw_g (lw_at lw_m5 227 rfl) rfl
theorem q1312 : (Jvm.Cond.static ({ cls := "java/util/Arrays", name := "copyOf", desc := "([Ljava/lang/Object;ILjava/lang/Class;)[Ljava/lang/Object;" } : Jvm.MethodName)) ∈ lw_all := lw_g (lw_at lw_m5 228 rfl) rfl
theorem q1313 : (Jvm.Cond.code ({ cls := "java/util/Arrays", name := "copyOf", desc := "([Ljava/lang/Object;ILjava/lang/Class;)[Ljava/lang/Object;" } : Jvm.MethodName) prog_50_method_120_code (4 : Nat) (Option.some (Jvm.ClassFile.FieldType.array (Jvm.ClassFile.FieldType.object "java/lang/Object")))) ∈ lw_all := lw_g (lw_at lw_m5 229 rfl) rfl
theorem q1314 : (Jvm.Cond.classLink "java/util/Arrays" (110 : Nat) "[Ljava/lang/Object;") ∈ lw_all := lw_g (lw_at lw_m5 230 rfl) rfl
theorem q1315 : (Jvm.Cond.classLink "java/util/Arrays" (2 : Nat) "java/lang/Object") ∈ lw_all := lw_g (lw_at lw_m5 231 rfl) rfl

def RJ14 : String := "jdk/internal/util/Preconditions"
abbrev cJ14_checkFromToIndex : ByteArray := prog_58_method_12_code
def yJ14_checkFromToIndex : MethodName := ⟨RJ14, "checkFromToIndex", "(IIILjava/util/function/BiFunction;)I"⟩
def dkwJ14_checkFromToIndex_0 : List UInt8 := [26, 155, 0, 13, 26, 27, 163, 0, 8, 27, 28, 164, 0, 11, 45, 26, 27, 28, 184, 0, 99, 191, 26, 172]
abbrev dktJ14_checkFromToIndex_0 : List UInt8 := dkwJ14_checkFromToIndex_0 ++ []
theorem dksJ14_checkFromToIndex_0 : cJ14_checkFromToIndex.data.toList.drop 0 = dktJ14_checkFromToIndex_0 := by decide +kernel
theorem dJ14_checkFromToIndex_0 : decode cJ14_checkFromToIndex 0 = .ok (.iload_n 0, 1) := dk_26 (dk_at dksJ14_checkFromToIndex_0 0 rfl rfl)
theorem dJ14_checkFromToIndex_1 : decode cJ14_checkFromToIndex 1 = .ok (.ifCond .lt 13, 3) := dk_155 0 13 (dk_at dksJ14_checkFromToIndex_0 1 rfl rfl)
theorem dJ14_checkFromToIndex_4 : decode cJ14_checkFromToIndex 4 = .ok (.iload_n 0, 1) := dk_26 (dk_at dksJ14_checkFromToIndex_0 4 rfl rfl)
theorem dJ14_checkFromToIndex_5 : decode cJ14_checkFromToIndex 5 = .ok (.iload_n 1, 1) := dk_27 (dk_at dksJ14_checkFromToIndex_0 5 rfl rfl)
theorem dJ14_checkFromToIndex_6 : decode cJ14_checkFromToIndex 6 = .ok (.if_icmp .gt 8, 3) := dk_163 0 8 (dk_at dksJ14_checkFromToIndex_0 6 rfl rfl)
theorem dJ14_checkFromToIndex_9 : decode cJ14_checkFromToIndex 9 = .ok (.iload_n 1, 1) := dk_27 (dk_at dksJ14_checkFromToIndex_0 9 rfl rfl)
theorem dJ14_checkFromToIndex_10 : decode cJ14_checkFromToIndex 10 = .ok (.iload_n 2, 1) := dk_28 (dk_at dksJ14_checkFromToIndex_0 10 rfl rfl)
theorem dJ14_checkFromToIndex_11 : decode cJ14_checkFromToIndex 11 = .ok (.if_icmp .le 11, 3) := dk_164 0 11 (dk_at dksJ14_checkFromToIndex_0 11 rfl rfl)
theorem dJ14_checkFromToIndex_14 : decode cJ14_checkFromToIndex 14 = .ok (.aload_n 3, 1) := dk_45 (dk_at dksJ14_checkFromToIndex_0 14 rfl rfl)
theorem dJ14_checkFromToIndex_15 : decode cJ14_checkFromToIndex 15 = .ok (.iload_n 0, 1) := dk_26 (dk_at dksJ14_checkFromToIndex_0 15 rfl rfl)
theorem dJ14_checkFromToIndex_16 : decode cJ14_checkFromToIndex 16 = .ok (.iload_n 1, 1) := dk_27 (dk_at dksJ14_checkFromToIndex_0 16 rfl rfl)
theorem dJ14_checkFromToIndex_17 : decode cJ14_checkFromToIndex 17 = .ok (.iload_n 2, 1) := dk_28 (dk_at dksJ14_checkFromToIndex_0 17 rfl rfl)
theorem dJ14_checkFromToIndex_18 : decode cJ14_checkFromToIndex 18 = .ok (.invokestatic 99, 3) := dk_184 0 99 (dk_at dksJ14_checkFromToIndex_0 18 rfl rfl)
theorem dJ14_checkFromToIndex_21 : decode cJ14_checkFromToIndex 21 = .ok (.athrow, 1) := dk_191 (dk_at dksJ14_checkFromToIndex_0 21 rfl rfl)
theorem dJ14_checkFromToIndex_22 : decode cJ14_checkFromToIndex 22 = .ok (.iload_n 0, 1) := dk_26 (dk_at dksJ14_checkFromToIndex_0 22 rfl rfl)
theorem dJ14_checkFromToIndex_23 : decode cJ14_checkFromToIndex 23 = .ok (.ireturn, 1) := dk_172 (dk_at dksJ14_checkFromToIndex_0 23 rfl rfl)
abbrev cJ14_checkFromIndexSize : ByteArray := prog_58_method_13_code
def yJ14_checkFromIndexSize : MethodName := ⟨RJ14, "checkFromIndexSize", "(IIILjava/util/function/BiFunction;)I"⟩
def dkwJ14_checkFromIndexSize_1 : List UInt8 := [172]
abbrev dktJ14_checkFromIndexSize_1 : List UInt8 := dkwJ14_checkFromIndexSize_1 ++ []
def dkwJ14_checkFromIndexSize_0 : List UInt8 := [28, 26, 128, 27, 128, 155, 0, 10, 27, 28, 26, 100, 164, 0, 11, 45, 26, 27, 28, 184, 0, 103, 191, 26]
abbrev dktJ14_checkFromIndexSize_0 : List UInt8 := dkwJ14_checkFromIndexSize_0 ++ dktJ14_checkFromIndexSize_1
theorem dksJ14_checkFromIndexSize_0 : cJ14_checkFromIndexSize.data.toList.drop 0 = dktJ14_checkFromIndexSize_0 := by decide +kernel
theorem dksJ14_checkFromIndexSize_1 : cJ14_checkFromIndexSize.data.toList.drop 24 = dktJ14_checkFromIndexSize_1 := dk_seg dksJ14_checkFromIndexSize_0 24 rfl rfl
theorem dJ14_checkFromIndexSize_0 : decode cJ14_checkFromIndexSize 0 = .ok (.iload_n 2, 1) := dk_28 (dk_at dksJ14_checkFromIndexSize_0 0 rfl rfl)
theorem dJ14_checkFromIndexSize_1 : decode cJ14_checkFromIndexSize 1 = .ok (.iload_n 0, 1) := dk_26 (dk_at dksJ14_checkFromIndexSize_0 1 rfl rfl)
theorem dJ14_checkFromIndexSize_2 : decode cJ14_checkFromIndexSize 2 = .ok (.ior, 1) := dk_128 (dk_at dksJ14_checkFromIndexSize_0 2 rfl rfl)
theorem dJ14_checkFromIndexSize_3 : decode cJ14_checkFromIndexSize 3 = .ok (.iload_n 1, 1) := dk_27 (dk_at dksJ14_checkFromIndexSize_0 3 rfl rfl)
theorem dJ14_checkFromIndexSize_4 : decode cJ14_checkFromIndexSize 4 = .ok (.ior, 1) := dk_128 (dk_at dksJ14_checkFromIndexSize_0 4 rfl rfl)
theorem dJ14_checkFromIndexSize_5 : decode cJ14_checkFromIndexSize 5 = .ok (.ifCond .lt 10, 3) := dk_155 0 10 (dk_at dksJ14_checkFromIndexSize_0 5 rfl rfl)
theorem dJ14_checkFromIndexSize_8 : decode cJ14_checkFromIndexSize 8 = .ok (.iload_n 1, 1) := dk_27 (dk_at dksJ14_checkFromIndexSize_0 8 rfl rfl)
theorem dJ14_checkFromIndexSize_9 : decode cJ14_checkFromIndexSize 9 = .ok (.iload_n 2, 1) := dk_28 (dk_at dksJ14_checkFromIndexSize_0 9 rfl rfl)
theorem dJ14_checkFromIndexSize_10 : decode cJ14_checkFromIndexSize 10 = .ok (.iload_n 0, 1) := dk_26 (dk_at dksJ14_checkFromIndexSize_0 10 rfl rfl)
theorem dJ14_checkFromIndexSize_11 : decode cJ14_checkFromIndexSize 11 = .ok (.isub, 1) := dk_100 (dk_at dksJ14_checkFromIndexSize_0 11 rfl rfl)
theorem dJ14_checkFromIndexSize_12 : decode cJ14_checkFromIndexSize 12 = .ok (.if_icmp .le 11, 3) := dk_164 0 11 (dk_at dksJ14_checkFromIndexSize_0 12 rfl rfl)
theorem dJ14_checkFromIndexSize_15 : decode cJ14_checkFromIndexSize 15 = .ok (.aload_n 3, 1) := dk_45 (dk_at dksJ14_checkFromIndexSize_0 15 rfl rfl)
theorem dJ14_checkFromIndexSize_16 : decode cJ14_checkFromIndexSize 16 = .ok (.iload_n 0, 1) := dk_26 (dk_at dksJ14_checkFromIndexSize_0 16 rfl rfl)
theorem dJ14_checkFromIndexSize_17 : decode cJ14_checkFromIndexSize 17 = .ok (.iload_n 1, 1) := dk_27 (dk_at dksJ14_checkFromIndexSize_0 17 rfl rfl)
theorem dJ14_checkFromIndexSize_18 : decode cJ14_checkFromIndexSize 18 = .ok (.iload_n 2, 1) := dk_28 (dk_at dksJ14_checkFromIndexSize_0 18 rfl rfl)
theorem dJ14_checkFromIndexSize_19 : decode cJ14_checkFromIndexSize 19 = .ok (.invokestatic 103, 3) := dk_184 0 103 (dk_at dksJ14_checkFromIndexSize_0 19 rfl rfl)
theorem dJ14_checkFromIndexSize_22 : decode cJ14_checkFromIndexSize 22 = .ok (.athrow, 1) := dk_191 (dk_at dksJ14_checkFromIndexSize_0 22 rfl rfl)
theorem dJ14_checkFromIndexSize_23 : decode cJ14_checkFromIndexSize 23 = .ok (.iload_n 0, 1) := dk_26 (dk_at dksJ14_checkFromIndexSize_0 23 rfl rfl)
theorem dJ14_checkFromIndexSize_24 : decode cJ14_checkFromIndexSize 24 = .ok (.ireturn, 1) := dk_172 (dk_at dksJ14_checkFromIndexSize_1 0 rfl rfl)
abbrev cJ14_checkIndex : ByteArray := prog_58_method_11_code
def yJ14_checkIndex : MethodName := ⟨RJ14, "checkIndex", "(IILjava/util/function/BiFunction;)I"⟩
def dkwJ14_checkIndex_0 : List UInt8 := [26, 155, 0, 8, 26, 27, 161, 0, 10, 44, 26, 27, 184, 0, 95, 191, 26, 172]
abbrev dktJ14_checkIndex_0 : List UInt8 := dkwJ14_checkIndex_0 ++ []
theorem dksJ14_checkIndex_0 : cJ14_checkIndex.data.toList.drop 0 = dktJ14_checkIndex_0 := by decide +kernel
theorem dJ14_checkIndex_0 : decode cJ14_checkIndex 0 = .ok (.iload_n 0, 1) := dk_26 (dk_at dksJ14_checkIndex_0 0 rfl rfl)
theorem dJ14_checkIndex_1 : decode cJ14_checkIndex 1 = .ok (.ifCond .lt 8, 3) := dk_155 0 8 (dk_at dksJ14_checkIndex_0 1 rfl rfl)
theorem dJ14_checkIndex_4 : decode cJ14_checkIndex 4 = .ok (.iload_n 0, 1) := dk_26 (dk_at dksJ14_checkIndex_0 4 rfl rfl)
theorem dJ14_checkIndex_5 : decode cJ14_checkIndex 5 = .ok (.iload_n 1, 1) := dk_27 (dk_at dksJ14_checkIndex_0 5 rfl rfl)
theorem dJ14_checkIndex_6 : decode cJ14_checkIndex 6 = .ok (.if_icmp .lt 10, 3) := dk_161 0 10 (dk_at dksJ14_checkIndex_0 6 rfl rfl)
theorem dJ14_checkIndex_9 : decode cJ14_checkIndex 9 = .ok (.aload_n 2, 1) := dk_44 (dk_at dksJ14_checkIndex_0 9 rfl rfl)
theorem dJ14_checkIndex_10 : decode cJ14_checkIndex 10 = .ok (.iload_n 0, 1) := dk_26 (dk_at dksJ14_checkIndex_0 10 rfl rfl)
theorem dJ14_checkIndex_11 : decode cJ14_checkIndex 11 = .ok (.iload_n 1, 1) := dk_27 (dk_at dksJ14_checkIndex_0 11 rfl rfl)
theorem dJ14_checkIndex_12 : decode cJ14_checkIndex 12 = .ok (.invokestatic 95, 3) := dk_184 0 95 (dk_at dksJ14_checkIndex_0 12 rfl rfl)
theorem dJ14_checkIndex_15 : decode cJ14_checkIndex 15 = .ok (.athrow, 1) := dk_191 (dk_at dksJ14_checkIndex_0 15 rfl rfl)
theorem dJ14_checkIndex_16 : decode cJ14_checkIndex 16 = .ok (.iload_n 0, 1) := dk_26 (dk_at dksJ14_checkIndex_0 16 rfl rfl)
theorem dJ14_checkIndex_17 : decode cJ14_checkIndex 17 = .ok (.ireturn, 1) := dk_172 (dk_at dksJ14_checkIndex_0 17 rfl rfl)
theorem q142 : (Jvm.Cond.initialized "jdk/internal/util/Preconditions") ∈ lw_all := lw_g (lw_at lw_m1 18 rfl) rfl
theorem q338 : (Jvm.Cond.laysStatic "jdk/internal/util/Preconditions" "SIOOBE_FORMATTER" "Ljava/util/function/BiFunction;") ∈ lw_tbl := lw_at lw_m1 214 rfl
theorem q340 : (Jvm.Cond.static ({ cls := "jdk/internal/util/Preconditions", name := "checkFromToIndex", desc := "(IIILjava/util/function/BiFunction;)I" } : Jvm.MethodName)) ∈ lw_all := lw_g (lw_at lw_m1 216 rfl) rfl
theorem q341 : (Jvm.Cond.code ({ cls := "jdk/internal/util/Preconditions", name := "checkFromToIndex", desc := "(IIILjava/util/function/BiFunction;)I" } : Jvm.MethodName) prog_58_method_12_code (4 : Nat) (Option.some Jvm.ClassFile.FieldType.int)) ∈ lw_all := lw_g (lw_at lw_m1 217 rfl) rfl
theorem q386 : (Jvm.Cond.static ({ cls := "jdk/internal/util/Preconditions", name := "checkFromIndexSize", desc := "(IIILjava/util/function/BiFunction;)I" } : Jvm.MethodName)) ∈ lw_all := lw_g (lw_at lw_m2 22 rfl) rfl
theorem q387 : (Jvm.Cond.code ({ cls := "jdk/internal/util/Preconditions", name := "checkFromIndexSize", desc := "(IIILjava/util/function/BiFunction;)I" } : Jvm.MethodName) prog_58_method_13_code (4 : Nat) (Option.some Jvm.ClassFile.FieldType.int)) ∈ lw_all := lw_g (lw_at lw_m2 23 rfl) rfl
theorem q686 : (Jvm.Cond.static ({ cls := "jdk/internal/util/Preconditions", name := "checkIndex", desc := "(IILjava/util/function/BiFunction;)I" } : Jvm.MethodName)) ∈ lw_all := lw_g (lw_at lw_m3 82 rfl) rfl
theorem q687 : (Jvm.Cond.code ({ cls := "jdk/internal/util/Preconditions", name := "checkIndex", desc := "(IILjava/util/function/BiFunction;)I" } : Jvm.MethodName) prog_58_method_11_code (3 : Nat) (Option.some Jvm.ClassFile.FieldType.int)) ∈ lw_all := lw_g (lw_at lw_m3 83 rfl) rfl

def RJ15 : String := "java/lang/StringLatin1"
abbrev cJ15_inflate : ByteArray := prog_40_method_50_code
def yJ15_inflate : MethodName := ⟨RJ15, "inflate", "([BI[BII)V"⟩
def dkwJ15_inflate_0 : List UInt8 := [42, 27, 44, 29, 21, 4, 184, 0, 240, 177]
abbrev dktJ15_inflate_0 : List UInt8 := dkwJ15_inflate_0 ++ []
theorem dksJ15_inflate_0 : cJ15_inflate.data.toList.drop 0 = dktJ15_inflate_0 := by decide +kernel
theorem dJ15_inflate_0 : decode cJ15_inflate 0 = .ok (.aload_n 0, 1) := dk_42 (dk_at dksJ15_inflate_0 0 rfl rfl)
theorem dJ15_inflate_1 : decode cJ15_inflate 1 = .ok (.iload_n 1, 1) := dk_27 (dk_at dksJ15_inflate_0 1 rfl rfl)
theorem dJ15_inflate_2 : decode cJ15_inflate 2 = .ok (.aload_n 2, 1) := dk_44 (dk_at dksJ15_inflate_0 2 rfl rfl)
theorem dJ15_inflate_3 : decode cJ15_inflate 3 = .ok (.iload_n 3, 1) := dk_29 (dk_at dksJ15_inflate_0 3 rfl rfl)
theorem dJ15_inflate_4 : decode cJ15_inflate 4 = .ok (.iload 4, 2) := dk_21 4 (dk_at dksJ15_inflate_0 4 rfl rfl)
theorem dJ15_inflate_6 : decode cJ15_inflate 6 = .ok (.invokestatic 240, 3) := dk_184 0 240 (dk_at dksJ15_inflate_0 6 rfl rfl)
theorem dJ15_inflate_9 : decode cJ15_inflate 9 = .ok (.return_, 1) := dk_177 (dk_at dksJ15_inflate_0 9 rfl rfl)
abbrev cJ15_canEncode : ByteArray := prog_40_method_3_code
def yJ15_canEncode : MethodName := ⟨RJ15, "canEncode", "(C)Z"⟩
def dkwJ15_canEncode_0 : List UInt8 := [26, 17, 0, 255, 163, 0, 7, 4, 167, 0, 4, 3, 172]
abbrev dktJ15_canEncode_0 : List UInt8 := dkwJ15_canEncode_0 ++ []
theorem dksJ15_canEncode_0 : cJ15_canEncode.data.toList.drop 0 = dktJ15_canEncode_0 := by decide +kernel
theorem dJ15_canEncode_0 : decode cJ15_canEncode 0 = .ok (.iload_n 0, 1) := dk_26 (dk_at dksJ15_canEncode_0 0 rfl rfl)
theorem dJ15_canEncode_1 : decode cJ15_canEncode 1 = .ok (.sipush 255, 3) := dk_17 0 255 (dk_at dksJ15_canEncode_0 1 rfl rfl)
theorem dJ15_canEncode_4 : decode cJ15_canEncode 4 = .ok (.if_icmp .gt 7, 3) := dk_163 0 7 (dk_at dksJ15_canEncode_0 4 rfl rfl)
theorem dJ15_canEncode_7 : decode cJ15_canEncode 7 = .ok (.iconst 1, 1) := dk_4 (dk_at dksJ15_canEncode_0 7 rfl rfl)
theorem dJ15_canEncode_8 : decode cJ15_canEncode 8 = .ok (.goto 4, 3) := dk_167 0 4 (dk_at dksJ15_canEncode_0 8 rfl rfl)
theorem dJ15_canEncode_11 : decode cJ15_canEncode 11 = .ok (.iconst 0, 1) := dk_3 (dk_at dksJ15_canEncode_0 11 rfl rfl)
theorem dJ15_canEncode_12 : decode cJ15_canEncode 12 = .ok (.ireturn, 1) := dk_172 (dk_at dksJ15_canEncode_0 12 rfl rfl)
abbrev cJ15_hashCode : ByteArray := prog_40_method_21_code
def yJ15_hashCode : MethodName := ⟨RJ15, "hashCode", "([B)I"⟩
def dkwJ15_hashCode_2 : List UInt8 := [3, 167, 0, 22, 42, 3, 51, 17, 0, 255, 126, 167, 0, 12, 42, 3, 42, 190, 3, 7, 184, 0, 84, 172]
abbrev dktJ15_hashCode_2 : List UInt8 := dkwJ15_hashCode_2 ++ []
def dkwJ15_hashCode_1 : List UInt8 := [171, 0, 0, 0, 0, 40, 0, 0, 0, 2, 0, 0, 0, 0, 0, 0, 0, 26, 0, 0, 0, 1, 0, 0, 0, 30]
abbrev dktJ15_hashCode_1 : List UInt8 := dkwJ15_hashCode_1 ++ dktJ15_hashCode_2
def dkwJ15_hashCode_0 : List UInt8 := [42, 190]
abbrev dktJ15_hashCode_0 : List UInt8 := dkwJ15_hashCode_0 ++ dktJ15_hashCode_1
theorem dksJ15_hashCode_0 : cJ15_hashCode.data.toList.drop 0 = dktJ15_hashCode_0 := by decide +kernel
theorem dksJ15_hashCode_1 : cJ15_hashCode.data.toList.drop 2 = dktJ15_hashCode_1 := dk_seg dksJ15_hashCode_0 2 rfl rfl
theorem dksJ15_hashCode_2 : cJ15_hashCode.data.toList.drop 28 = dktJ15_hashCode_2 := dk_seg dksJ15_hashCode_1 26 rfl rfl
theorem dJ15_hashCode_0 : decode cJ15_hashCode 0 = .ok (.aload_n 0, 1) := dk_42 (dk_at dksJ15_hashCode_0 0 rfl rfl)
theorem dJ15_hashCode_1 : decode cJ15_hashCode 1 = .ok (.arraylength, 1) := dk_190 (dk_at dksJ15_hashCode_0 1 rfl rfl)
theorem dJ15_hashCode_2 : decode cJ15_hashCode 2 = .ok (.lookupswitch 40 #[(0, 26), (1, 30)], 26) := by decide +kernel
theorem dJ15_hashCode_28 : decode cJ15_hashCode 28 = .ok (.iconst 0, 1) := dk_3 (dk_at dksJ15_hashCode_2 0 rfl rfl)
theorem dJ15_hashCode_29 : decode cJ15_hashCode 29 = .ok (.goto 22, 3) := dk_167 0 22 (dk_at dksJ15_hashCode_2 1 rfl rfl)
theorem dJ15_hashCode_32 : decode cJ15_hashCode 32 = .ok (.aload_n 0, 1) := dk_42 (dk_at dksJ15_hashCode_2 4 rfl rfl)
theorem dJ15_hashCode_33 : decode cJ15_hashCode 33 = .ok (.iconst 0, 1) := dk_3 (dk_at dksJ15_hashCode_2 5 rfl rfl)
theorem dJ15_hashCode_34 : decode cJ15_hashCode 34 = .ok (.baload, 1) := dk_51 (dk_at dksJ15_hashCode_2 6 rfl rfl)
theorem dJ15_hashCode_35 : decode cJ15_hashCode 35 = .ok (.sipush 255, 3) := dk_17 0 255 (dk_at dksJ15_hashCode_2 7 rfl rfl)
theorem dJ15_hashCode_38 : decode cJ15_hashCode 38 = .ok (.iand, 1) := dk_126 (dk_at dksJ15_hashCode_2 10 rfl rfl)
theorem dJ15_hashCode_39 : decode cJ15_hashCode 39 = .ok (.goto 12, 3) := dk_167 0 12 (dk_at dksJ15_hashCode_2 11 rfl rfl)
theorem dJ15_hashCode_42 : decode cJ15_hashCode 42 = .ok (.aload_n 0, 1) := dk_42 (dk_at dksJ15_hashCode_2 14 rfl rfl)
theorem dJ15_hashCode_43 : decode cJ15_hashCode 43 = .ok (.iconst 0, 1) := dk_3 (dk_at dksJ15_hashCode_2 15 rfl rfl)
theorem dJ15_hashCode_44 : decode cJ15_hashCode 44 = .ok (.aload_n 0, 1) := dk_42 (dk_at dksJ15_hashCode_2 16 rfl rfl)
theorem dJ15_hashCode_45 : decode cJ15_hashCode 45 = .ok (.arraylength, 1) := dk_190 (dk_at dksJ15_hashCode_2 17 rfl rfl)
theorem dJ15_hashCode_46 : decode cJ15_hashCode 46 = .ok (.iconst 0, 1) := dk_3 (dk_at dksJ15_hashCode_2 18 rfl rfl)
theorem dJ15_hashCode_47 : decode cJ15_hashCode 47 = .ok (.iconst 4, 1) := dk_7 (dk_at dksJ15_hashCode_2 19 rfl rfl)
theorem dJ15_hashCode_48 : decode cJ15_hashCode 48 = .ok (.invokestatic 84, 3) := dk_184 0 84 (dk_at dksJ15_hashCode_2 20 rfl rfl)
theorem dJ15_hashCode_51 : decode cJ15_hashCode 51 = .ok (.ireturn, 1) := dk_172 (dk_at dksJ15_hashCode_2 23 rfl rfl)
abbrev cJ15_equals : ByteArray := prog_40_method_13_code
def yJ15_equals : MethodName := ⟨RJ15, "equals", "([B[B)Z"⟩
def dkwJ15_equals_1 : List UInt8 := [3, 172, 132, 2, 1, 167, 255, 236, 4, 172, 3, 172]
abbrev dktJ15_equals_1 : List UInt8 := dkwJ15_equals_1 ++ []
def dkwJ15_equals_0 : List UInt8 := [42, 190, 43, 190, 160, 0, 30, 3, 61, 28, 42, 190, 162, 0, 20, 42, 28, 51, 43, 28, 51, 159, 0, 5]
abbrev dktJ15_equals_0 : List UInt8 := dkwJ15_equals_0 ++ dktJ15_equals_1
theorem dksJ15_equals_0 : cJ15_equals.data.toList.drop 0 = dktJ15_equals_0 := by decide +kernel
theorem dksJ15_equals_1 : cJ15_equals.data.toList.drop 24 = dktJ15_equals_1 := dk_seg dksJ15_equals_0 24 rfl rfl
theorem dJ15_equals_0 : decode cJ15_equals 0 = .ok (.aload_n 0, 1) := dk_42 (dk_at dksJ15_equals_0 0 rfl rfl)
theorem dJ15_equals_1 : decode cJ15_equals 1 = .ok (.arraylength, 1) := dk_190 (dk_at dksJ15_equals_0 1 rfl rfl)
theorem dJ15_equals_2 : decode cJ15_equals 2 = .ok (.aload_n 1, 1) := dk_43 (dk_at dksJ15_equals_0 2 rfl rfl)
theorem dJ15_equals_3 : decode cJ15_equals 3 = .ok (.arraylength, 1) := dk_190 (dk_at dksJ15_equals_0 3 rfl rfl)
theorem dJ15_equals_4 : decode cJ15_equals 4 = .ok (.if_icmp .ne 30, 3) := dk_160 0 30 (dk_at dksJ15_equals_0 4 rfl rfl)
theorem dJ15_equals_7 : decode cJ15_equals 7 = .ok (.iconst 0, 1) := dk_3 (dk_at dksJ15_equals_0 7 rfl rfl)
theorem dJ15_equals_8 : decode cJ15_equals 8 = .ok (.istore_n 2, 1) := dk_61 (dk_at dksJ15_equals_0 8 rfl rfl)
theorem dJ15_equals_9 : decode cJ15_equals 9 = .ok (.iload_n 2, 1) := dk_28 (dk_at dksJ15_equals_0 9 rfl rfl)
theorem dJ15_equals_10 : decode cJ15_equals 10 = .ok (.aload_n 0, 1) := dk_42 (dk_at dksJ15_equals_0 10 rfl rfl)
theorem dJ15_equals_11 : decode cJ15_equals 11 = .ok (.arraylength, 1) := dk_190 (dk_at dksJ15_equals_0 11 rfl rfl)
theorem dJ15_equals_12 : decode cJ15_equals 12 = .ok (.if_icmp .ge 20, 3) := dk_162 0 20 (dk_at dksJ15_equals_0 12 rfl rfl)
theorem dJ15_equals_15 : decode cJ15_equals 15 = .ok (.aload_n 0, 1) := dk_42 (dk_at dksJ15_equals_0 15 rfl rfl)
theorem dJ15_equals_16 : decode cJ15_equals 16 = .ok (.iload_n 2, 1) := dk_28 (dk_at dksJ15_equals_0 16 rfl rfl)
theorem dJ15_equals_17 : decode cJ15_equals 17 = .ok (.baload, 1) := dk_51 (dk_at dksJ15_equals_0 17 rfl rfl)
theorem dJ15_equals_18 : decode cJ15_equals 18 = .ok (.aload_n 1, 1) := dk_43 (dk_at dksJ15_equals_0 18 rfl rfl)
theorem dJ15_equals_19 : decode cJ15_equals 19 = .ok (.iload_n 2, 1) := dk_28 (dk_at dksJ15_equals_0 19 rfl rfl)
theorem dJ15_equals_20 : decode cJ15_equals 20 = .ok (.baload, 1) := dk_51 (dk_at dksJ15_equals_0 20 rfl rfl)
theorem dJ15_equals_21 : decode cJ15_equals 21 = .ok (.if_icmp .eq 5, 3) := dk_159 0 5 (dk_at dksJ15_equals_0 21 rfl rfl)
theorem dJ15_equals_24 : decode cJ15_equals 24 = .ok (.iconst 0, 1) := dk_3 (dk_at dksJ15_equals_1 0 rfl rfl)
theorem dJ15_equals_25 : decode cJ15_equals 25 = .ok (.ireturn, 1) := dk_172 (dk_at dksJ15_equals_1 1 rfl rfl)
theorem dJ15_equals_26 : decode cJ15_equals 26 = .ok (.iinc 2 1, 3) := dk_132 2 1 (dk_at dksJ15_equals_1 2 rfl rfl)
theorem dJ15_equals_29 : decode cJ15_equals 29 = .ok (.goto (-20), 3) := dk_167 255 236 (dk_at dksJ15_equals_1 5 rfl rfl)
theorem dJ15_equals_32 : decode cJ15_equals 32 = .ok (.iconst 1, 1) := dk_4 (dk_at dksJ15_equals_1 8 rfl rfl)
theorem dJ15_equals_33 : decode cJ15_equals 33 = .ok (.ireturn, 1) := dk_172 (dk_at dksJ15_equals_1 9 rfl rfl)
theorem dJ15_equals_34 : decode cJ15_equals 34 = .ok (.iconst 0, 1) := dk_3 (dk_at dksJ15_equals_1 10 rfl rfl)
theorem dJ15_equals_35 : decode cJ15_equals 35 = .ok (.ireturn, 1) := dk_172 (dk_at dksJ15_equals_1 11 rfl rfl)
abbrev cJ15_charAt : ByteArray := prog_40_method_2_code
def yJ15_charAt : MethodName := ⟨RJ15, "charAt", "([BI)C"⟩
def dkwJ15_charAt_0 : List UInt8 := [27, 42, 190, 184, 0, 9, 42, 27, 51, 17, 0, 255, 126, 146, 172]
abbrev dktJ15_charAt_0 : List UInt8 := dkwJ15_charAt_0 ++ []
theorem dksJ15_charAt_0 : cJ15_charAt.data.toList.drop 0 = dktJ15_charAt_0 := by decide +kernel
theorem dJ15_charAt_0 : decode cJ15_charAt 0 = .ok (.iload_n 1, 1) := dk_27 (dk_at dksJ15_charAt_0 0 rfl rfl)
theorem dJ15_charAt_1 : decode cJ15_charAt 1 = .ok (.aload_n 0, 1) := dk_42 (dk_at dksJ15_charAt_0 1 rfl rfl)
theorem dJ15_charAt_2 : decode cJ15_charAt 2 = .ok (.arraylength, 1) := dk_190 (dk_at dksJ15_charAt_0 2 rfl rfl)
theorem dJ15_charAt_3 : decode cJ15_charAt 3 = .ok (.invokestatic 9, 3) := dk_184 0 9 (dk_at dksJ15_charAt_0 3 rfl rfl)
theorem dJ15_charAt_6 : decode cJ15_charAt 6 = .ok (.aload_n 0, 1) := dk_42 (dk_at dksJ15_charAt_0 6 rfl rfl)
theorem dJ15_charAt_7 : decode cJ15_charAt 7 = .ok (.iload_n 1, 1) := dk_27 (dk_at dksJ15_charAt_0 7 rfl rfl)
theorem dJ15_charAt_8 : decode cJ15_charAt 8 = .ok (.baload, 1) := dk_51 (dk_at dksJ15_charAt_0 8 rfl rfl)
theorem dJ15_charAt_9 : decode cJ15_charAt 9 = .ok (.sipush 255, 3) := dk_17 0 255 (dk_at dksJ15_charAt_0 9 rfl rfl)
theorem dJ15_charAt_12 : decode cJ15_charAt 12 = .ok (.iand, 1) := dk_126 (dk_at dksJ15_charAt_0 12 rfl rfl)
theorem dJ15_charAt_13 : decode cJ15_charAt 13 = .ok (.i2c, 1) := dk_146 (dk_at dksJ15_charAt_0 13 rfl rfl)
theorem dJ15_charAt_14 : decode cJ15_charAt 14 = .ok (.ireturn, 1) := dk_172 (dk_at dksJ15_charAt_0 14 rfl rfl)
theorem q143 : (Jvm.Cond.initialized "java/lang/StringLatin1") ∈ lw_all := lw_g (lw_at lw_m1 19 rfl) rfl
theorem q374 : (Jvm.Cond.static ({ cls := "java/lang/StringLatin1", name := "inflate", desc := "([BI[BII)V" } : Jvm.MethodName)) ∈ lw_all := lw_g (lw_at lw_m2 10 rfl) rfl
theorem q375 : (Jvm.Cond.code ({ cls := "java/lang/StringLatin1", name := "inflate", desc := "([BI[BII)V" } : Jvm.MethodName) prog_40_method_50_code (5 : Nat) (Option.none : Option Jvm.ClassFile.FieldType)) ∈ lw_all := lw_g (lw_at lw_m2 11 rfl) rfl
theorem q376 : (Jvm.Cond.methodLink "java/lang/StringLatin1" (240 : Nat) ({ cls := "java/lang/StringUTF16", name := "inflate", desc := "([BI[BII)V" } : Jvm.MethodName)) ∈ lw_all := lw_g (lw_at lw_m2 12 rfl) rfl
theorem q1062 : (Jvm.Cond.static ({ cls := "java/lang/StringLatin1", name := "canEncode", desc := "(C)Z" } : Jvm.MethodName)) ∈ lw_all := lw_g (lw_at lw_m4 218 rfl) rfl
theorem q1063 : (Jvm.Cond.code ({ cls := "java/lang/StringLatin1", name := "canEncode", desc := "(C)Z" } : Jvm.MethodName) prog_40_method_3_code (1 : Nat) (Option.some Jvm.ClassFile.FieldType.boolean)) ∈ lw_all := lw_g (lw_at lw_m4 219 rfl) rfl
theorem q1088 : (Jvm.Cond.static ({ cls := "java/lang/StringLatin1", name := "hashCode", desc := "([B)I" } : Jvm.MethodName)) ∈ lw_all := lw_g (lw_at lw_m5 4 rfl) rfl
theorem q1089 : (Jvm.Cond.code ({ cls := "java/lang/StringLatin1", name := "hashCode", desc := "([B)I" } : Jvm.MethodName) prog_40_method_21_code (1 : Nat) (Option.some Jvm.ClassFile.FieldType.int)) ∈ lw_all := lw_g (lw_at lw_m5 5 rfl) rfl
theorem q1090 : (Jvm.Cond.methodLink "java/lang/StringLatin1" (84 : Nat) ({ cls := "jdk/internal/util/ArraysSupport", name := "vectorizedHashCode", desc := "(Ljava/lang/Object;IIII)I" } : Jvm.MethodName)) ∈ lw_all := lw_g (lw_at lw_m5 6 rfl) rfl
theorem q1147 : (Jvm.Cond.static ({ cls := "java/lang/StringLatin1", name := "equals", desc := "([B[B)Z" } : Jvm.MethodName)) ∈ lw_all := lw_g (lw_at lw_m5 63 rfl) rfl
theorem q1148 : (Jvm.Cond.code ({ cls := "java/lang/StringLatin1", name := "equals", desc := "([B[B)Z" } : Jvm.MethodName) prog_40_method_13_code (3 : Nat) (Option.some Jvm.ClassFile.FieldType.boolean)) ∈ lw_all := lw_g (lw_at lw_m5 64 rfl) rfl
theorem q1231 : (Jvm.Cond.static ({ cls := "java/lang/StringLatin1", name := "charAt", desc := "([BI)C" } : Jvm.MethodName)) ∈ lw_all := lw_g (lw_at lw_m5 147 rfl) rfl
theorem q1232 : (Jvm.Cond.code ({ cls := "java/lang/StringLatin1", name := "charAt", desc := "([BI)C" } : Jvm.MethodName) prog_40_method_2_code (2 : Nat) (Option.some Jvm.ClassFile.FieldType.char)) ∈ lw_all := lw_g (lw_at lw_m5 148 rfl) rfl
theorem q1233 : (Jvm.Cond.methodLink "java/lang/StringLatin1" (9 : Nat) ({ cls := "java/lang/String", name := "checkIndex", desc := "(II)V" } : Jvm.MethodName)) ∈ lw_all := lw_g (lw_at lw_m5 149 rfl) rfl

def RJ16 : String := "java/lang/Number"
abbrev cJ16_init : ByteArray := prog_36_method_1_code
def yJ16_init : MethodName := ⟨RJ16, "<init>", "()V"⟩
theorem dJ16_init_0 : decode cJ16_init 0 = .ok (.aload_n 0, 1) := by decide +kernel
theorem dJ16_init_1 : decode cJ16_init 1 = .ok (.invokespecial 1, 3) := by decide +kernel
theorem dJ16_init_4 : decode cJ16_init 4 = .ok (.return_, 1) := by decide +kernel
theorem q144 : (Jvm.Cond.initialized "java/lang/Number") ∈ lw_all := lw_g (lw_at lw_m1 20 rfl) rfl
theorem q1518 : (Jvm.Cond.instanceMethod ({ cls := "java/lang/Number", name := "<init>", desc := "()V" } : Jvm.MethodName)) ∈ lw_all := lw_g (lw_at lw_m6 194 rfl) rfl
theorem q1519 : (Jvm.Cond.code ({ cls := "java/lang/Number", name := "<init>", desc := "()V" } : Jvm.MethodName) prog_36_method_1_code (1 : Nat) (Option.none : Option Jvm.ClassFile.FieldType)) ∈ lw_all := lw_g (lw_at lw_m6 195 rfl) rfl
theorem q1520 : (Jvm.Cond.methodLink "java/lang/Number" (1 : Nat) ({ cls := "java/lang/Object", name := "<init>", desc := "()V" } : Jvm.MethodName)) ∈ lw_all := lw_g (lw_at lw_m6 196 rfl) rfl

abbrev cJ17_stringSize : ByteArray := prog_31_method_13_code
def yJ17_stringSize : MethodName := ⟨RJ17, "stringSize", "(I)I"⟩
def dkwJ17_stringSize_1 : List UInt8 := [164, 0, 7, 29, 27, 96, 172, 16, 10, 28, 104, 61, 132, 3, 1, 167, 255, 233, 16, 10, 27, 96, 172]
abbrev dktJ17_stringSize_1 : List UInt8 := dkwJ17_stringSize_1 ++ []
def dkwJ17_stringSize_0 : List UInt8 := [4, 60, 26, 155, 0, 8, 3, 60, 26, 116, 59, 16, 246, 61, 4, 62, 29, 16, 10, 162, 0, 23, 26, 28]
abbrev dktJ17_stringSize_0 : List UInt8 := dkwJ17_stringSize_0 ++ dktJ17_stringSize_1
theorem dksJ17_stringSize_0 : cJ17_stringSize.data.toList.drop 0 = dktJ17_stringSize_0 := by decide +kernel
theorem dksJ17_stringSize_1 : cJ17_stringSize.data.toList.drop 24 = dktJ17_stringSize_1 := dk_seg dksJ17_stringSize_0 24 rfl rfl
theorem dJ17_stringSize_0 : decode cJ17_stringSize 0 = .ok (.iconst 1, 1) := dk_4 (dk_at dksJ17_stringSize_0 0 rfl rfl)
theorem dJ17_stringSize_1 : decode cJ17_stringSize 1 = .ok (.istore_n 1, 1) := dk_60 (dk_at dksJ17_stringSize_0 1 rfl rfl)
theorem dJ17_stringSize_2 : decode cJ17_stringSize 2 = .ok (.iload_n 0, 1) := dk_26 (dk_at dksJ17_stringSize_0 2 rfl rfl)
theorem dJ17_stringSize_3 : decode cJ17_stringSize 3 = .ok (.ifCond .lt 8, 3) := dk_155 0 8 (dk_at dksJ17_stringSize_0 3 rfl rfl)
theorem dJ17_stringSize_6 : decode cJ17_stringSize 6 = .ok (.iconst 0, 1) := dk_3 (dk_at dksJ17_stringSize_0 6 rfl rfl)
theorem dJ17_stringSize_7 : decode cJ17_stringSize 7 = .ok (.istore_n 1, 1) := dk_60 (dk_at dksJ17_stringSize_0 7 rfl rfl)
theorem dJ17_stringSize_8 : decode cJ17_stringSize 8 = .ok (.iload_n 0, 1) := dk_26 (dk_at dksJ17_stringSize_0 8 rfl rfl)
theorem dJ17_stringSize_9 : decode cJ17_stringSize 9 = .ok (.ineg, 1) := dk_116 (dk_at dksJ17_stringSize_0 9 rfl rfl)
theorem dJ17_stringSize_10 : decode cJ17_stringSize 10 = .ok (.istore_n 0, 1) := dk_59 (dk_at dksJ17_stringSize_0 10 rfl rfl)
theorem dJ17_stringSize_11 : decode cJ17_stringSize 11 = .ok (.bipush (-10), 2) := dk_16 246 (dk_at dksJ17_stringSize_0 11 rfl rfl)
theorem dJ17_stringSize_13 : decode cJ17_stringSize 13 = .ok (.istore_n 2, 1) := dk_61 (dk_at dksJ17_stringSize_0 13 rfl rfl)
theorem dJ17_stringSize_14 : decode cJ17_stringSize 14 = .ok (.iconst 1, 1) := dk_4 (dk_at dksJ17_stringSize_0 14 rfl rfl)
theorem dJ17_stringSize_15 : decode cJ17_stringSize 15 = .ok (.istore_n 3, 1) := dk_62 (dk_at dksJ17_stringSize_0 15 rfl rfl)
theorem dJ17_stringSize_16 : decode cJ17_stringSize 16 = .ok (.iload_n 3, 1) := dk_29 (dk_at dksJ17_stringSize_0 16 rfl rfl)
theorem dJ17_stringSize_17 : decode cJ17_stringSize 17 = .ok (.bipush 10, 2) := dk_16 10 (dk_at dksJ17_stringSize_0 17 rfl rfl)
theorem dJ17_stringSize_19 : decode cJ17_stringSize 19 = .ok (.if_icmp .ge 23, 3) := dk_162 0 23 (dk_at dksJ17_stringSize_0 19 rfl rfl)
theorem dJ17_stringSize_22 : decode cJ17_stringSize 22 = .ok (.iload_n 0, 1) := dk_26 (dk_at dksJ17_stringSize_0 22 rfl rfl)
theorem dJ17_stringSize_23 : decode cJ17_stringSize 23 = .ok (.iload_n 2, 1) := dk_28 (dk_at dksJ17_stringSize_0 23 rfl rfl)
theorem dJ17_stringSize_24 : decode cJ17_stringSize 24 = .ok (.if_icmp .le 7, 3) := dk_164 0 7 (dk_at dksJ17_stringSize_1 0 rfl rfl)
theorem dJ17_stringSize_27 : decode cJ17_stringSize 27 = .ok (.iload_n 3, 1) := dk_29 (dk_at dksJ17_stringSize_1 3 rfl rfl)
theorem dJ17_stringSize_28 : decode cJ17_stringSize 28 = .ok (.iload_n 1, 1) := dk_27 (dk_at dksJ17_stringSize_1 4 rfl rfl)
theorem dJ17_stringSize_29 : decode cJ17_stringSize 29 = .ok (.iadd, 1) := dk_96 (dk_at dksJ17_stringSize_1 5 rfl rfl)
theorem dJ17_stringSize_30 : decode cJ17_stringSize 30 = .ok (.ireturn, 1) := dk_172 (dk_at dksJ17_stringSize_1 6 rfl rfl)
theorem dJ17_stringSize_31 : decode cJ17_stringSize 31 = .ok (.bipush 10, 2) := dk_16 10 (dk_at dksJ17_stringSize_1 7 rfl rfl)
theorem dJ17_stringSize_33 : decode cJ17_stringSize 33 = .ok (.iload_n 2, 1) := dk_28 (dk_at dksJ17_stringSize_1 9 rfl rfl)
theorem dJ17_stringSize_34 : decode cJ17_stringSize 34 = .ok (.imul, 1) := dk_104 (dk_at dksJ17_stringSize_1 10 rfl rfl)
theorem dJ17_stringSize_35 : decode cJ17_stringSize 35 = .ok (.istore_n 2, 1) := dk_61 (dk_at dksJ17_stringSize_1 11 rfl rfl)
theorem dJ17_stringSize_36 : decode cJ17_stringSize 36 = .ok (.iinc 3 1, 3) := dk_132 3 1 (dk_at dksJ17_stringSize_1 12 rfl rfl)
theorem dJ17_stringSize_39 : decode cJ17_stringSize 39 = .ok (.goto (-23), 3) := dk_167 255 233 (dk_at dksJ17_stringSize_1 15 rfl rfl)
theorem dJ17_stringSize_42 : decode cJ17_stringSize 42 = .ok (.bipush 10, 2) := dk_16 10 (dk_at dksJ17_stringSize_1 18 rfl rfl)
theorem dJ17_stringSize_44 : decode cJ17_stringSize 44 = .ok (.iload_n 1, 1) := dk_27 (dk_at dksJ17_stringSize_1 20 rfl rfl)
theorem dJ17_stringSize_45 : decode cJ17_stringSize 45 = .ok (.iadd, 1) := dk_96 (dk_at dksJ17_stringSize_1 21 rfl rfl)
theorem dJ17_stringSize_46 : decode cJ17_stringSize 46 = .ok (.ireturn, 1) := dk_172 (dk_at dksJ17_stringSize_1 22 rfl rfl)
abbrev cJ17_getChars : ByteArray := prog_31_method_12_code
def yJ17_getChars : MethodName := ⟨RJ17, "getChars", "(II[B)I"⟩
def dkwJ17_getChars_5 : List UInt8 := [16, 45, 84, 21, 5, 172]
abbrev dktJ17_getChars_5 : List UInt8 := dkwJ17_getChars_5 ++ []
def dkwJ17_getChars_4 : List UInt8 := [132, 5, 255, 21, 5, 178, 0, 87, 26, 116, 51, 84, 21, 6, 153, 0, 12, 44, 132, 5, 255, 21, 5]
abbrev dktJ17_getChars_4 : List UInt8 := dkwJ17_getChars_4 ++ dktJ17_getChars_5
def dkwJ17_getChars_3 : List UInt8 := [167, 255, 209, 44, 132, 5, 255, 21, 5, 178, 0, 83, 26, 116, 51, 84, 26, 16, 247, 162, 0, 16, 44]
abbrev dktJ17_getChars_3 : List UInt8 := dkwJ17_getChars_3 ++ dktJ17_getChars_4
def dkwJ17_getChars_2 : List UInt8 := [21, 5, 178, 0, 83, 21, 4, 51, 84, 44, 132, 5, 255, 21, 5, 178, 0, 87, 21, 4, 51, 84]
abbrev dktJ17_getChars_2 : List UInt8 := dkwJ17_getChars_2 ++ dktJ17_getChars_3
def dkwJ17_getChars_1 : List UInt8 := [16, 156, 163, 0, 47, 26, 16, 100, 108, 62, 29, 16, 100, 104, 26, 100, 54, 4, 29, 59, 44, 132, 5, 255]
abbrev dktJ17_getChars_1 : List UInt8 := dkwJ17_getChars_1 ++ dktJ17_getChars_2
def dkwJ17_getChars_0 : List UInt8 := [27, 54, 5, 26, 156, 0, 7, 4, 167, 0, 4, 3, 54, 6, 21, 6, 154, 0, 6, 26, 116, 59, 26]
abbrev dktJ17_getChars_0 : List UInt8 := dkwJ17_getChars_0 ++ dktJ17_getChars_1
theorem dksJ17_getChars_0 : cJ17_getChars.data.toList.drop 0 = dktJ17_getChars_0 := by decide +kernel
theorem dksJ17_getChars_1 : cJ17_getChars.data.toList.drop 23 = dktJ17_getChars_1 := dk_seg dksJ17_getChars_0 23 rfl rfl
theorem dksJ17_getChars_2 : cJ17_getChars.data.toList.drop 47 = dktJ17_getChars_2 := dk_seg dksJ17_getChars_1 24 rfl rfl
theorem dksJ17_getChars_3 : cJ17_getChars.data.toList.drop 69 = dktJ17_getChars_3 := dk_seg dksJ17_getChars_2 22 rfl rfl
theorem dksJ17_getChars_4 : cJ17_getChars.data.toList.drop 92 = dktJ17_getChars_4 := dk_seg dksJ17_getChars_3 23 rfl rfl
theorem dksJ17_getChars_5 : cJ17_getChars.data.toList.drop 115 = dktJ17_getChars_5 := dk_seg dksJ17_getChars_4 23 rfl rfl
theorem dJ17_getChars_0 : decode cJ17_getChars 0 = .ok (.iload_n 1, 1) := dk_27 (dk_at dksJ17_getChars_0 0 rfl rfl)
theorem dJ17_getChars_1 : decode cJ17_getChars 1 = .ok (.istore 5, 2) := dk_54 5 (dk_at dksJ17_getChars_0 1 rfl rfl)
theorem dJ17_getChars_3 : decode cJ17_getChars 3 = .ok (.iload_n 0, 1) := dk_26 (dk_at dksJ17_getChars_0 3 rfl rfl)
theorem dJ17_getChars_4 : decode cJ17_getChars 4 = .ok (.ifCond .ge 7, 3) := dk_156 0 7 (dk_at dksJ17_getChars_0 4 rfl rfl)
theorem dJ17_getChars_7 : decode cJ17_getChars 7 = .ok (.iconst 1, 1) := dk_4 (dk_at dksJ17_getChars_0 7 rfl rfl)
theorem dJ17_getChars_8 : decode cJ17_getChars 8 = .ok (.goto 4, 3) := dk_167 0 4 (dk_at dksJ17_getChars_0 8 rfl rfl)
theorem dJ17_getChars_11 : decode cJ17_getChars 11 = .ok (.iconst 0, 1) := dk_3 (dk_at dksJ17_getChars_0 11 rfl rfl)
theorem dJ17_getChars_12 : decode cJ17_getChars 12 = .ok (.istore 6, 2) := dk_54 6 (dk_at dksJ17_getChars_0 12 rfl rfl)
theorem dJ17_getChars_14 : decode cJ17_getChars 14 = .ok (.iload 6, 2) := dk_21 6 (dk_at dksJ17_getChars_0 14 rfl rfl)
theorem dJ17_getChars_16 : decode cJ17_getChars 16 = .ok (.ifCond .ne 6, 3) := dk_154 0 6 (dk_at dksJ17_getChars_0 16 rfl rfl)
theorem dJ17_getChars_19 : decode cJ17_getChars 19 = .ok (.iload_n 0, 1) := dk_26 (dk_at dksJ17_getChars_0 19 rfl rfl)
theorem dJ17_getChars_20 : decode cJ17_getChars 20 = .ok (.ineg, 1) := dk_116 (dk_at dksJ17_getChars_0 20 rfl rfl)
theorem dJ17_getChars_21 : decode cJ17_getChars 21 = .ok (.istore_n 0, 1) := dk_59 (dk_at dksJ17_getChars_0 21 rfl rfl)
theorem dJ17_getChars_22 : decode cJ17_getChars 22 = .ok (.iload_n 0, 1) := dk_26 (dk_at dksJ17_getChars_0 22 rfl rfl)
theorem dJ17_getChars_23 : decode cJ17_getChars 23 = .ok (.bipush (-100), 2) := dk_16 156 (dk_at dksJ17_getChars_1 0 rfl rfl)
theorem dJ17_getChars_25 : decode cJ17_getChars 25 = .ok (.if_icmp .gt 47, 3) := dk_163 0 47 (dk_at dksJ17_getChars_1 2 rfl rfl)
theorem dJ17_getChars_28 : decode cJ17_getChars 28 = .ok (.iload_n 0, 1) := dk_26 (dk_at dksJ17_getChars_1 5 rfl rfl)
theorem dJ17_getChars_29 : decode cJ17_getChars 29 = .ok (.bipush 100, 2) := dk_16 100 (dk_at dksJ17_getChars_1 6 rfl rfl)
theorem dJ17_getChars_31 : decode cJ17_getChars 31 = .ok (.idiv, 1) := dk_108 (dk_at dksJ17_getChars_1 8 rfl rfl)
theorem dJ17_getChars_32 : decode cJ17_getChars 32 = .ok (.istore_n 3, 1) := dk_62 (dk_at dksJ17_getChars_1 9 rfl rfl)
theorem dJ17_getChars_33 : decode cJ17_getChars 33 = .ok (.iload_n 3, 1) := dk_29 (dk_at dksJ17_getChars_1 10 rfl rfl)
theorem dJ17_getChars_34 : decode cJ17_getChars 34 = .ok (.bipush 100, 2) := dk_16 100 (dk_at dksJ17_getChars_1 11 rfl rfl)
theorem dJ17_getChars_36 : decode cJ17_getChars 36 = .ok (.imul, 1) := dk_104 (dk_at dksJ17_getChars_1 13 rfl rfl)
theorem dJ17_getChars_37 : decode cJ17_getChars 37 = .ok (.iload_n 0, 1) := dk_26 (dk_at dksJ17_getChars_1 14 rfl rfl)
theorem dJ17_getChars_38 : decode cJ17_getChars 38 = .ok (.isub, 1) := dk_100 (dk_at dksJ17_getChars_1 15 rfl rfl)
theorem dJ17_getChars_39 : decode cJ17_getChars 39 = .ok (.istore 4, 2) := dk_54 4 (dk_at dksJ17_getChars_1 16 rfl rfl)
theorem dJ17_getChars_41 : decode cJ17_getChars 41 = .ok (.iload_n 3, 1) := dk_29 (dk_at dksJ17_getChars_1 18 rfl rfl)
theorem dJ17_getChars_42 : decode cJ17_getChars 42 = .ok (.istore_n 0, 1) := dk_59 (dk_at dksJ17_getChars_1 19 rfl rfl)
theorem dJ17_getChars_43 : decode cJ17_getChars 43 = .ok (.aload_n 2, 1) := dk_44 (dk_at dksJ17_getChars_1 20 rfl rfl)
theorem dJ17_getChars_44 : decode cJ17_getChars 44 = .ok (.iinc 5 (-1), 3) := dk_132 5 255 (dk_at dksJ17_getChars_1 21 rfl rfl)
theorem dJ17_getChars_47 : decode cJ17_getChars 47 = .ok (.iload 5, 2) := dk_21 5 (dk_at dksJ17_getChars_2 0 rfl rfl)
theorem dJ17_getChars_49 : decode cJ17_getChars 49 = .ok (.getstatic 83, 3) := dk_178 0 83 (dk_at dksJ17_getChars_2 2 rfl rfl)
theorem dJ17_getChars_52 : decode cJ17_getChars 52 = .ok (.iload 4, 2) := dk_21 4 (dk_at dksJ17_getChars_2 5 rfl rfl)
theorem dJ17_getChars_54 : decode cJ17_getChars 54 = .ok (.baload, 1) := dk_51 (dk_at dksJ17_getChars_2 7 rfl rfl)
theorem dJ17_getChars_55 : decode cJ17_getChars 55 = .ok (.bastore, 1) := dk_84 (dk_at dksJ17_getChars_2 8 rfl rfl)
theorem dJ17_getChars_56 : decode cJ17_getChars 56 = .ok (.aload_n 2, 1) := dk_44 (dk_at dksJ17_getChars_2 9 rfl rfl)
theorem dJ17_getChars_57 : decode cJ17_getChars 57 = .ok (.iinc 5 (-1), 3) := dk_132 5 255 (dk_at dksJ17_getChars_2 10 rfl rfl)
theorem dJ17_getChars_60 : decode cJ17_getChars 60 = .ok (.iload 5, 2) := dk_21 5 (dk_at dksJ17_getChars_2 13 rfl rfl)
theorem dJ17_getChars_62 : decode cJ17_getChars 62 = .ok (.getstatic 87, 3) := dk_178 0 87 (dk_at dksJ17_getChars_2 15 rfl rfl)
theorem dJ17_getChars_65 : decode cJ17_getChars 65 = .ok (.iload 4, 2) := dk_21 4 (dk_at dksJ17_getChars_2 18 rfl rfl)
theorem dJ17_getChars_67 : decode cJ17_getChars 67 = .ok (.baload, 1) := dk_51 (dk_at dksJ17_getChars_2 20 rfl rfl)
theorem dJ17_getChars_68 : decode cJ17_getChars 68 = .ok (.bastore, 1) := dk_84 (dk_at dksJ17_getChars_2 21 rfl rfl)
theorem dJ17_getChars_69 : decode cJ17_getChars 69 = .ok (.goto (-47), 3) := dk_167 255 209 (dk_at dksJ17_getChars_3 0 rfl rfl)
theorem dJ17_getChars_72 : decode cJ17_getChars 72 = .ok (.aload_n 2, 1) := dk_44 (dk_at dksJ17_getChars_3 3 rfl rfl)
theorem dJ17_getChars_73 : decode cJ17_getChars 73 = .ok (.iinc 5 (-1), 3) := dk_132 5 255 (dk_at dksJ17_getChars_3 4 rfl rfl)
theorem dJ17_getChars_76 : decode cJ17_getChars 76 = .ok (.iload 5, 2) := dk_21 5 (dk_at dksJ17_getChars_3 7 rfl rfl)
theorem dJ17_getChars_78 : decode cJ17_getChars 78 = .ok (.getstatic 83, 3) := dk_178 0 83 (dk_at dksJ17_getChars_3 9 rfl rfl)
theorem dJ17_getChars_81 : decode cJ17_getChars 81 = .ok (.iload_n 0, 1) := dk_26 (dk_at dksJ17_getChars_3 12 rfl rfl)
theorem dJ17_getChars_82 : decode cJ17_getChars 82 = .ok (.ineg, 1) := dk_116 (dk_at dksJ17_getChars_3 13 rfl rfl)
theorem dJ17_getChars_83 : decode cJ17_getChars 83 = .ok (.baload, 1) := dk_51 (dk_at dksJ17_getChars_3 14 rfl rfl)
theorem dJ17_getChars_84 : decode cJ17_getChars 84 = .ok (.bastore, 1) := dk_84 (dk_at dksJ17_getChars_3 15 rfl rfl)
theorem dJ17_getChars_85 : decode cJ17_getChars 85 = .ok (.iload_n 0, 1) := dk_26 (dk_at dksJ17_getChars_3 16 rfl rfl)
theorem dJ17_getChars_86 : decode cJ17_getChars 86 = .ok (.bipush (-9), 2) := dk_16 247 (dk_at dksJ17_getChars_3 17 rfl rfl)
theorem dJ17_getChars_88 : decode cJ17_getChars 88 = .ok (.if_icmp .ge 16, 3) := dk_162 0 16 (dk_at dksJ17_getChars_3 19 rfl rfl)
theorem dJ17_getChars_91 : decode cJ17_getChars 91 = .ok (.aload_n 2, 1) := dk_44 (dk_at dksJ17_getChars_3 22 rfl rfl)
theorem dJ17_getChars_92 : decode cJ17_getChars 92 = .ok (.iinc 5 (-1), 3) := dk_132 5 255 (dk_at dksJ17_getChars_4 0 rfl rfl)
theorem dJ17_getChars_95 : decode cJ17_getChars 95 = .ok (.iload 5, 2) := dk_21 5 (dk_at dksJ17_getChars_4 3 rfl rfl)
theorem dJ17_getChars_97 : decode cJ17_getChars 97 = .ok (.getstatic 87, 3) := dk_178 0 87 (dk_at dksJ17_getChars_4 5 rfl rfl)
theorem dJ17_getChars_100 : decode cJ17_getChars 100 = .ok (.iload_n 0, 1) := dk_26 (dk_at dksJ17_getChars_4 8 rfl rfl)
theorem dJ17_getChars_101 : decode cJ17_getChars 101 = .ok (.ineg, 1) := dk_116 (dk_at dksJ17_getChars_4 9 rfl rfl)
theorem dJ17_getChars_102 : decode cJ17_getChars 102 = .ok (.baload, 1) := dk_51 (dk_at dksJ17_getChars_4 10 rfl rfl)
theorem dJ17_getChars_103 : decode cJ17_getChars 103 = .ok (.bastore, 1) := dk_84 (dk_at dksJ17_getChars_4 11 rfl rfl)
theorem dJ17_getChars_104 : decode cJ17_getChars 104 = .ok (.iload 6, 2) := dk_21 6 (dk_at dksJ17_getChars_4 12 rfl rfl)
theorem dJ17_getChars_106 : decode cJ17_getChars 106 = .ok (.ifCond .eq 12, 3) := dk_153 0 12 (dk_at dksJ17_getChars_4 14 rfl rfl)
theorem dJ17_getChars_109 : decode cJ17_getChars 109 = .ok (.aload_n 2, 1) := dk_44 (dk_at dksJ17_getChars_4 17 rfl rfl)
theorem dJ17_getChars_110 : decode cJ17_getChars 110 = .ok (.iinc 5 (-1), 3) := dk_132 5 255 (dk_at dksJ17_getChars_4 18 rfl rfl)
theorem dJ17_getChars_113 : decode cJ17_getChars 113 = .ok (.iload 5, 2) := dk_21 5 (dk_at dksJ17_getChars_4 21 rfl rfl)
theorem dJ17_getChars_115 : decode cJ17_getChars 115 = .ok (.bipush 45, 2) := dk_16 45 (dk_at dksJ17_getChars_5 0 rfl rfl)
theorem dJ17_getChars_117 : decode cJ17_getChars 117 = .ok (.bastore, 1) := dk_84 (dk_at dksJ17_getChars_5 2 rfl rfl)
theorem dJ17_getChars_118 : decode cJ17_getChars 118 = .ok (.iload 5, 2) := dk_21 5 (dk_at dksJ17_getChars_5 3 rfl rfl)
theorem dJ17_getChars_120 : decode cJ17_getChars 120 = .ok (.ireturn, 1) := dk_172 (dk_at dksJ17_getChars_5 5 rfl rfl)
abbrev cJ17_intValue : ByteArray := prog_31_method_27_code
def yJ17_intValue : MethodName := ⟨RJ17, "intValue", "()I"⟩
theorem dJ17_intValue_0 : decode cJ17_intValue 0 = .ok (.aload_n 0, 1) := by decide +kernel
theorem dJ17_intValue_1 : decode cJ17_intValue 1 = .ok (.getfield 205, 3) := by decide +kernel
theorem dJ17_intValue_4 : decode cJ17_intValue 4 = .ok (.ireturn, 1) := by decide +kernel
abbrev cJ17_bitCount : ByteArray := prog_31_method_49_code
def yJ17_bitCount : MethodName := ⟨RJ17, "bitCount", "(I)I"⟩
def dkwJ17_bitCount_2 : List UInt8 := [26, 16, 63, 126, 172]
abbrev dktJ17_bitCount_2 : List UInt8 := dkwJ17_bitCount_2 ++ []
def dkwJ17_bitCount_1 : List UInt8 := [26, 26, 7, 124, 96, 19, 1, 11, 126, 59, 26, 26, 16, 8, 124, 96, 59, 26, 26, 16, 16, 124, 96, 59]
abbrev dktJ17_bitCount_1 : List UInt8 := dkwJ17_bitCount_1 ++ dktJ17_bitCount_2
def dkwJ17_bitCount_0 : List UInt8 := [26, 26, 4, 124, 19, 1, 9, 126, 100, 59, 26, 19, 1, 10, 126, 26, 5, 124, 19, 1, 10, 126, 96, 59]
abbrev dktJ17_bitCount_0 : List UInt8 := dkwJ17_bitCount_0 ++ dktJ17_bitCount_1
theorem dksJ17_bitCount_0 : cJ17_bitCount.data.toList.drop 0 = dktJ17_bitCount_0 := by decide +kernel
theorem dksJ17_bitCount_1 : cJ17_bitCount.data.toList.drop 24 = dktJ17_bitCount_1 := dk_seg dksJ17_bitCount_0 24 rfl rfl
theorem dksJ17_bitCount_2 : cJ17_bitCount.data.toList.drop 48 = dktJ17_bitCount_2 := dk_seg dksJ17_bitCount_1 24 rfl rfl
theorem dJ17_bitCount_0 : decode cJ17_bitCount 0 = .ok (.iload_n 0, 1) := dk_26 (dk_at dksJ17_bitCount_0 0 rfl rfl)
theorem dJ17_bitCount_1 : decode cJ17_bitCount 1 = .ok (.iload_n 0, 1) := dk_26 (dk_at dksJ17_bitCount_0 1 rfl rfl)
theorem dJ17_bitCount_2 : decode cJ17_bitCount 2 = .ok (.iconst 1, 1) := dk_4 (dk_at dksJ17_bitCount_0 2 rfl rfl)
theorem dJ17_bitCount_3 : decode cJ17_bitCount 3 = .ok (.iushr, 1) := dk_124 (dk_at dksJ17_bitCount_0 3 rfl rfl)
theorem dJ17_bitCount_4 : decode cJ17_bitCount 4 = .ok (.ldc_w 265, 3) := dk_19 1 9 (dk_at dksJ17_bitCount_0 4 rfl rfl)
theorem dJ17_bitCount_7 : decode cJ17_bitCount 7 = .ok (.iand, 1) := dk_126 (dk_at dksJ17_bitCount_0 7 rfl rfl)
theorem dJ17_bitCount_8 : decode cJ17_bitCount 8 = .ok (.isub, 1) := dk_100 (dk_at dksJ17_bitCount_0 8 rfl rfl)
theorem dJ17_bitCount_9 : decode cJ17_bitCount 9 = .ok (.istore_n 0, 1) := dk_59 (dk_at dksJ17_bitCount_0 9 rfl rfl)
theorem dJ17_bitCount_10 : decode cJ17_bitCount 10 = .ok (.iload_n 0, 1) := dk_26 (dk_at dksJ17_bitCount_0 10 rfl rfl)
theorem dJ17_bitCount_11 : decode cJ17_bitCount 11 = .ok (.ldc_w 266, 3) := dk_19 1 10 (dk_at dksJ17_bitCount_0 11 rfl rfl)
theorem dJ17_bitCount_14 : decode cJ17_bitCount 14 = .ok (.iand, 1) := dk_126 (dk_at dksJ17_bitCount_0 14 rfl rfl)
theorem dJ17_bitCount_15 : decode cJ17_bitCount 15 = .ok (.iload_n 0, 1) := dk_26 (dk_at dksJ17_bitCount_0 15 rfl rfl)
theorem dJ17_bitCount_16 : decode cJ17_bitCount 16 = .ok (.iconst 2, 1) := dk_5 (dk_at dksJ17_bitCount_0 16 rfl rfl)
theorem dJ17_bitCount_17 : decode cJ17_bitCount 17 = .ok (.iushr, 1) := dk_124 (dk_at dksJ17_bitCount_0 17 rfl rfl)
theorem dJ17_bitCount_18 : decode cJ17_bitCount 18 = .ok (.ldc_w 266, 3) := dk_19 1 10 (dk_at dksJ17_bitCount_0 18 rfl rfl)
theorem dJ17_bitCount_21 : decode cJ17_bitCount 21 = .ok (.iand, 1) := dk_126 (dk_at dksJ17_bitCount_0 21 rfl rfl)
theorem dJ17_bitCount_22 : decode cJ17_bitCount 22 = .ok (.iadd, 1) := dk_96 (dk_at dksJ17_bitCount_0 22 rfl rfl)
theorem dJ17_bitCount_23 : decode cJ17_bitCount 23 = .ok (.istore_n 0, 1) := dk_59 (dk_at dksJ17_bitCount_0 23 rfl rfl)
theorem dJ17_bitCount_24 : decode cJ17_bitCount 24 = .ok (.iload_n 0, 1) := dk_26 (dk_at dksJ17_bitCount_1 0 rfl rfl)
theorem dJ17_bitCount_25 : decode cJ17_bitCount 25 = .ok (.iload_n 0, 1) := dk_26 (dk_at dksJ17_bitCount_1 1 rfl rfl)
theorem dJ17_bitCount_26 : decode cJ17_bitCount 26 = .ok (.iconst 4, 1) := dk_7 (dk_at dksJ17_bitCount_1 2 rfl rfl)
theorem dJ17_bitCount_27 : decode cJ17_bitCount 27 = .ok (.iushr, 1) := dk_124 (dk_at dksJ17_bitCount_1 3 rfl rfl)
theorem dJ17_bitCount_28 : decode cJ17_bitCount 28 = .ok (.iadd, 1) := dk_96 (dk_at dksJ17_bitCount_1 4 rfl rfl)
theorem dJ17_bitCount_29 : decode cJ17_bitCount 29 = .ok (.ldc_w 267, 3) := dk_19 1 11 (dk_at dksJ17_bitCount_1 5 rfl rfl)
theorem dJ17_bitCount_32 : decode cJ17_bitCount 32 = .ok (.iand, 1) := dk_126 (dk_at dksJ17_bitCount_1 8 rfl rfl)
theorem dJ17_bitCount_33 : decode cJ17_bitCount 33 = .ok (.istore_n 0, 1) := dk_59 (dk_at dksJ17_bitCount_1 9 rfl rfl)
theorem dJ17_bitCount_34 : decode cJ17_bitCount 34 = .ok (.iload_n 0, 1) := dk_26 (dk_at dksJ17_bitCount_1 10 rfl rfl)
theorem dJ17_bitCount_35 : decode cJ17_bitCount 35 = .ok (.iload_n 0, 1) := dk_26 (dk_at dksJ17_bitCount_1 11 rfl rfl)
theorem dJ17_bitCount_36 : decode cJ17_bitCount 36 = .ok (.bipush 8, 2) := dk_16 8 (dk_at dksJ17_bitCount_1 12 rfl rfl)
theorem dJ17_bitCount_38 : decode cJ17_bitCount 38 = .ok (.iushr, 1) := dk_124 (dk_at dksJ17_bitCount_1 14 rfl rfl)
theorem dJ17_bitCount_39 : decode cJ17_bitCount 39 = .ok (.iadd, 1) := dk_96 (dk_at dksJ17_bitCount_1 15 rfl rfl)
theorem dJ17_bitCount_40 : decode cJ17_bitCount 40 = .ok (.istore_n 0, 1) := dk_59 (dk_at dksJ17_bitCount_1 16 rfl rfl)
theorem dJ17_bitCount_41 : decode cJ17_bitCount 41 = .ok (.iload_n 0, 1) := dk_26 (dk_at dksJ17_bitCount_1 17 rfl rfl)
theorem dJ17_bitCount_42 : decode cJ17_bitCount 42 = .ok (.iload_n 0, 1) := dk_26 (dk_at dksJ17_bitCount_1 18 rfl rfl)
theorem dJ17_bitCount_43 : decode cJ17_bitCount 43 = .ok (.bipush 16, 2) := dk_16 16 (dk_at dksJ17_bitCount_1 19 rfl rfl)
theorem dJ17_bitCount_45 : decode cJ17_bitCount 45 = .ok (.iushr, 1) := dk_124 (dk_at dksJ17_bitCount_1 21 rfl rfl)
theorem dJ17_bitCount_46 : decode cJ17_bitCount 46 = .ok (.iadd, 1) := dk_96 (dk_at dksJ17_bitCount_1 22 rfl rfl)
theorem dJ17_bitCount_47 : decode cJ17_bitCount 47 = .ok (.istore_n 0, 1) := dk_59 (dk_at dksJ17_bitCount_1 23 rfl rfl)
theorem dJ17_bitCount_48 : decode cJ17_bitCount 48 = .ok (.iload_n 0, 1) := dk_26 (dk_at dksJ17_bitCount_2 0 rfl rfl)
theorem dJ17_bitCount_49 : decode cJ17_bitCount 49 = .ok (.bipush 63, 2) := dk_16 63 (dk_at dksJ17_bitCount_2 1 rfl rfl)
theorem dJ17_bitCount_51 : decode cJ17_bitCount 51 = .ok (.iand, 1) := dk_126 (dk_at dksJ17_bitCount_2 3 rfl rfl)
theorem dJ17_bitCount_52 : decode cJ17_bitCount 52 = .ok (.ireturn, 1) := dk_172 (dk_at dksJ17_bitCount_2 4 rfl rfl)
abbrev cJ17_valueOf : ByteArray := prog_31_method_22_code
def yJ17_valueOf : MethodName := ⟨RJ17, "valueOf", "(I)Ljava/lang/Integer;"⟩
def dkwJ17_valueOf_1 : List UInt8 := [187, 0, 1, 89, 26, 183, 0, 199, 176]
abbrev dktJ17_valueOf_1 : List UInt8 := dkwJ17_valueOf_1 ++ []
def dkwJ17_valueOf_0 : List UInt8 := [26, 16, 128, 161, 0, 20, 26, 178, 0, 191, 163, 0, 13, 178, 0, 195, 26, 17, 0, 128, 96, 50, 176]
abbrev dktJ17_valueOf_0 : List UInt8 := dkwJ17_valueOf_0 ++ dktJ17_valueOf_1
theorem dksJ17_valueOf_0 : cJ17_valueOf.data.toList.drop 0 = dktJ17_valueOf_0 := by decide +kernel
theorem dksJ17_valueOf_1 : cJ17_valueOf.data.toList.drop 23 = dktJ17_valueOf_1 := dk_seg dksJ17_valueOf_0 23 rfl rfl
theorem dJ17_valueOf_0 : decode cJ17_valueOf 0 = .ok (.iload_n 0, 1) := dk_26 (dk_at dksJ17_valueOf_0 0 rfl rfl)
theorem dJ17_valueOf_1 : decode cJ17_valueOf 1 = .ok (.bipush (-128), 2) := dk_16 128 (dk_at dksJ17_valueOf_0 1 rfl rfl)
theorem dJ17_valueOf_3 : decode cJ17_valueOf 3 = .ok (.if_icmp .lt 20, 3) := dk_161 0 20 (dk_at dksJ17_valueOf_0 3 rfl rfl)
theorem dJ17_valueOf_6 : decode cJ17_valueOf 6 = .ok (.iload_n 0, 1) := dk_26 (dk_at dksJ17_valueOf_0 6 rfl rfl)
theorem dJ17_valueOf_7 : decode cJ17_valueOf 7 = .ok (.getstatic 191, 3) := dk_178 0 191 (dk_at dksJ17_valueOf_0 7 rfl rfl)
theorem dJ17_valueOf_10 : decode cJ17_valueOf 10 = .ok (.if_icmp .gt 13, 3) := dk_163 0 13 (dk_at dksJ17_valueOf_0 10 rfl rfl)
theorem dJ17_valueOf_13 : decode cJ17_valueOf 13 = .ok (.getstatic 195, 3) := dk_178 0 195 (dk_at dksJ17_valueOf_0 13 rfl rfl)
theorem dJ17_valueOf_16 : decode cJ17_valueOf 16 = .ok (.iload_n 0, 1) := dk_26 (dk_at dksJ17_valueOf_0 16 rfl rfl)
theorem dJ17_valueOf_17 : decode cJ17_valueOf 17 = .ok (.sipush 128, 3) := dk_17 0 128 (dk_at dksJ17_valueOf_0 17 rfl rfl)
theorem dJ17_valueOf_20 : decode cJ17_valueOf 20 = .ok (.iadd, 1) := dk_96 (dk_at dksJ17_valueOf_0 20 rfl rfl)
theorem dJ17_valueOf_21 : decode cJ17_valueOf 21 = .ok (.aaload, 1) := dk_50 (dk_at dksJ17_valueOf_0 21 rfl rfl)
theorem dJ17_valueOf_22 : decode cJ17_valueOf 22 = .ok (.areturn, 1) := dk_176 (dk_at dksJ17_valueOf_0 22 rfl rfl)
theorem dJ17_valueOf_23 : decode cJ17_valueOf 23 = .ok (.new 1, 3) := dk_187 0 1 (dk_at dksJ17_valueOf_1 0 rfl rfl)
theorem dJ17_valueOf_26 : decode cJ17_valueOf 26 = .ok (.dup, 1) := dk_89 (dk_at dksJ17_valueOf_1 3 rfl rfl)
theorem dJ17_valueOf_27 : decode cJ17_valueOf 27 = .ok (.iload_n 0, 1) := dk_26 (dk_at dksJ17_valueOf_1 4 rfl rfl)
theorem dJ17_valueOf_28 : decode cJ17_valueOf 28 = .ok (.invokespecial 199, 3) := dk_183 0 199 (dk_at dksJ17_valueOf_1 5 rfl rfl)
theorem dJ17_valueOf_31 : decode cJ17_valueOf 31 = .ok (.areturn, 1) := dk_176 (dk_at dksJ17_valueOf_1 8 rfl rfl)
abbrev cJ17_init : ByteArray := prog_31_method_23_code
def yJ17_init : MethodName := ⟨RJ17, "<init>", "(I)V"⟩
def dkwJ17_init_0 : List UInt8 := [42, 183, 0, 202, 42, 27, 181, 0, 205, 177]
abbrev dktJ17_init_0 : List UInt8 := dkwJ17_init_0 ++ []
theorem dksJ17_init_0 : cJ17_init.data.toList.drop 0 = dktJ17_init_0 := by decide +kernel
theorem dJ17_init_0 : decode cJ17_init 0 = .ok (.aload_n 0, 1) := dk_42 (dk_at dksJ17_init_0 0 rfl rfl)
theorem dJ17_init_1 : decode cJ17_init 1 = .ok (.invokespecial 202, 3) := dk_183 0 202 (dk_at dksJ17_init_0 1 rfl rfl)
theorem dJ17_init_4 : decode cJ17_init 4 = .ok (.aload_n 0, 1) := dk_42 (dk_at dksJ17_init_0 4 rfl rfl)
theorem dJ17_init_5 : decode cJ17_init 5 = .ok (.iload_n 1, 1) := dk_27 (dk_at dksJ17_init_0 5 rfl rfl)
theorem dJ17_init_6 : decode cJ17_init 6 = .ok (.putfield 205, 3) := dk_181 0 205 (dk_at dksJ17_init_0 6 rfl rfl)
theorem dJ17_init_9 : decode cJ17_init 9 = .ok (.return_, 1) := dk_177 (dk_at dksJ17_init_0 9 rfl rfl)
abbrev cJ17_numberOfTrailingZeros : ByteArray := prog_31_method_48_code
def yJ17_numberOfTrailingZeros : MethodName := ⟨RJ17, "numberOfTrailingZeros", "(I)I"⟩
def dkwJ17_numberOfTrailingZeros_3 : List UInt8 := [5, 124, 59, 27, 26, 4, 124, 96, 172]
abbrev dktJ17_numberOfTrailingZeros_3 : List UInt8 := dkwJ17_numberOfTrailingZeros_3 ++ []
def dkwJ17_numberOfTrailingZeros_2 : List UInt8 := [124, 59, 26, 16, 16, 164, 0, 10, 132, 1, 4, 26, 7, 124, 59, 26, 7, 164, 0, 10, 132, 1, 2, 26]
abbrev dktJ17_numberOfTrailingZeros_2 : List UInt8 := dkwJ17_numberOfTrailingZeros_2 ++ dktJ17_numberOfTrailingZeros_3
def dkwJ17_numberOfTrailingZeros_1 : List UInt8 := [164, 0, 11, 132, 1, 16, 26, 16, 16, 124, 59, 26, 17, 1, 0, 164, 0, 11, 132, 1, 8, 26, 16, 8]
abbrev dktJ17_numberOfTrailingZeros_1 : List UInt8 := dkwJ17_numberOfTrailingZeros_1 ++ dktJ17_numberOfTrailingZeros_2
def dkwJ17_numberOfTrailingZeros_0 : List UInt8 := [26, 2, 130, 26, 4, 100, 126, 59, 26, 157, 0, 8, 26, 16, 32, 126, 172, 4, 60, 26, 19, 1, 8]
abbrev dktJ17_numberOfTrailingZeros_0 : List UInt8 := dkwJ17_numberOfTrailingZeros_0 ++ dktJ17_numberOfTrailingZeros_1
theorem dksJ17_numberOfTrailingZeros_0 : cJ17_numberOfTrailingZeros.data.toList.drop 0 = dktJ17_numberOfTrailingZeros_0 := by decide +kernel
theorem dksJ17_numberOfTrailingZeros_1 : cJ17_numberOfTrailingZeros.data.toList.drop 23 = dktJ17_numberOfTrailingZeros_1 := dk_seg dksJ17_numberOfTrailingZeros_0 23 rfl rfl
theorem dksJ17_numberOfTrailingZeros_2 : cJ17_numberOfTrailingZeros.data.toList.drop 47 = dktJ17_numberOfTrailingZeros_2 := dk_seg dksJ17_numberOfTrailingZeros_1 24 rfl rfl
theorem dksJ17_numberOfTrailingZeros_3 : cJ17_numberOfTrailingZeros.data.toList.drop 71 = dktJ17_numberOfTrailingZeros_3 := dk_seg dksJ17_numberOfTrailingZeros_2 24 rfl rfl
theorem dJ17_numberOfTrailingZeros_0 : decode cJ17_numberOfTrailingZeros 0 = .ok (.iload_n 0, 1) := dk_26 (dk_at dksJ17_numberOfTrailingZeros_0 0 rfl rfl)
theorem dJ17_numberOfTrailingZeros_1 : decode cJ17_numberOfTrailingZeros 1 = .ok (.iconst (-1), 1) := dk_2 (dk_at dksJ17_numberOfTrailingZeros_0 1 rfl rfl)
theorem dJ17_numberOfTrailingZeros_2 : decode cJ17_numberOfTrailingZeros 2 = .ok (.ixor, 1) := dk_130 (dk_at dksJ17_numberOfTrailingZeros_0 2 rfl rfl)
theorem dJ17_numberOfTrailingZeros_3 : decode cJ17_numberOfTrailingZeros 3 = .ok (.iload_n 0, 1) := dk_26 (dk_at dksJ17_numberOfTrailingZeros_0 3 rfl rfl)
theorem dJ17_numberOfTrailingZeros_4 : decode cJ17_numberOfTrailingZeros 4 = .ok (.iconst 1, 1) := dk_4 (dk_at dksJ17_numberOfTrailingZeros_0 4 rfl rfl)
theorem dJ17_numberOfTrailingZeros_5 : decode cJ17_numberOfTrailingZeros 5 = .ok (.isub, 1) := dk_100 (dk_at dksJ17_numberOfTrailingZeros_0 5 rfl rfl)
theorem dJ17_numberOfTrailingZeros_6 : decode cJ17_numberOfTrailingZeros 6 = .ok (.iand, 1) := dk_126 (dk_at dksJ17_numberOfTrailingZeros_0 6 rfl rfl)
theorem dJ17_numberOfTrailingZeros_7 : decode cJ17_numberOfTrailingZeros 7 = .ok (.istore_n 0, 1) := dk_59 (dk_at dksJ17_numberOfTrailingZeros_0 7 rfl rfl)
theorem dJ17_numberOfTrailingZeros_8 : decode cJ17_numberOfTrailingZeros 8 = .ok (.iload_n 0, 1) := dk_26 (dk_at dksJ17_numberOfTrailingZeros_0 8 rfl rfl)
theorem dJ17_numberOfTrailingZeros_9 : decode cJ17_numberOfTrailingZeros 9 = .ok (.ifCond .gt 8, 3) := dk_157 0 8 (dk_at dksJ17_numberOfTrailingZeros_0 9 rfl rfl)
theorem dJ17_numberOfTrailingZeros_12 : decode cJ17_numberOfTrailingZeros 12 = .ok (.iload_n 0, 1) := dk_26 (dk_at dksJ17_numberOfTrailingZeros_0 12 rfl rfl)
theorem dJ17_numberOfTrailingZeros_13 : decode cJ17_numberOfTrailingZeros 13 = .ok (.bipush 32, 2) := dk_16 32 (dk_at dksJ17_numberOfTrailingZeros_0 13 rfl rfl)
theorem dJ17_numberOfTrailingZeros_15 : decode cJ17_numberOfTrailingZeros 15 = .ok (.iand, 1) := dk_126 (dk_at dksJ17_numberOfTrailingZeros_0 15 rfl rfl)
theorem dJ17_numberOfTrailingZeros_16 : decode cJ17_numberOfTrailingZeros 16 = .ok (.ireturn, 1) := dk_172 (dk_at dksJ17_numberOfTrailingZeros_0 16 rfl rfl)
theorem dJ17_numberOfTrailingZeros_17 : decode cJ17_numberOfTrailingZeros 17 = .ok (.iconst 1, 1) := dk_4 (dk_at dksJ17_numberOfTrailingZeros_0 17 rfl rfl)
theorem dJ17_numberOfTrailingZeros_18 : decode cJ17_numberOfTrailingZeros 18 = .ok (.istore_n 1, 1) := dk_60 (dk_at dksJ17_numberOfTrailingZeros_0 18 rfl rfl)
theorem dJ17_numberOfTrailingZeros_19 : decode cJ17_numberOfTrailingZeros 19 = .ok (.iload_n 0, 1) := dk_26 (dk_at dksJ17_numberOfTrailingZeros_0 19 rfl rfl)
theorem dJ17_numberOfTrailingZeros_20 : decode cJ17_numberOfTrailingZeros 20 = .ok (.ldc_w 264, 3) := dk_19 1 8 (dk_at dksJ17_numberOfTrailingZeros_0 20 rfl rfl)
theorem dJ17_numberOfTrailingZeros_23 : decode cJ17_numberOfTrailingZeros 23 = .ok (.if_icmp .le 11, 3) := dk_164 0 11 (dk_at dksJ17_numberOfTrailingZeros_1 0 rfl rfl)
theorem dJ17_numberOfTrailingZeros_26 : decode cJ17_numberOfTrailingZeros 26 = .ok (.iinc 1 16, 3) := dk_132 1 16 (dk_at dksJ17_numberOfTrailingZeros_1 3 rfl rfl)
theorem dJ17_numberOfTrailingZeros_29 : decode cJ17_numberOfTrailingZeros 29 = .ok (.iload_n 0, 1) := dk_26 (dk_at dksJ17_numberOfTrailingZeros_1 6 rfl rfl)
theorem dJ17_numberOfTrailingZeros_30 : decode cJ17_numberOfTrailingZeros 30 = .ok (.bipush 16, 2) := dk_16 16 (dk_at dksJ17_numberOfTrailingZeros_1 7 rfl rfl)
theorem dJ17_numberOfTrailingZeros_32 : decode cJ17_numberOfTrailingZeros 32 = .ok (.iushr, 1) := dk_124 (dk_at dksJ17_numberOfTrailingZeros_1 9 rfl rfl)
theorem dJ17_numberOfTrailingZeros_33 : decode cJ17_numberOfTrailingZeros 33 = .ok (.istore_n 0, 1) := dk_59 (dk_at dksJ17_numberOfTrailingZeros_1 10 rfl rfl)
theorem dJ17_numberOfTrailingZeros_34 : decode cJ17_numberOfTrailingZeros 34 = .ok (.iload_n 0, 1) := dk_26 (dk_at dksJ17_numberOfTrailingZeros_1 11 rfl rfl)
theorem dJ17_numberOfTrailingZeros_35 : decode cJ17_numberOfTrailingZeros 35 = .ok (.sipush 256, 3) := dk_17 1 0 (dk_at dksJ17_numberOfTrailingZeros_1 12 rfl rfl)
theorem dJ17_numberOfTrailingZeros_38 : decode cJ17_numberOfTrailingZeros 38 = .ok (.if_icmp .le 11, 3) := dk_164 0 11 (dk_at dksJ17_numberOfTrailingZeros_1 15 rfl rfl)
theorem dJ17_numberOfTrailingZeros_41 : decode cJ17_numberOfTrailingZeros 41 = .ok (.iinc 1 8, 3) := dk_132 1 8 (dk_at dksJ17_numberOfTrailingZeros_1 18 rfl rfl)
theorem dJ17_numberOfTrailingZeros_44 : decode cJ17_numberOfTrailingZeros 44 = .ok (.iload_n 0, 1) := dk_26 (dk_at dksJ17_numberOfTrailingZeros_1 21 rfl rfl)
theorem dJ17_numberOfTrailingZeros_45 : decode cJ17_numberOfTrailingZeros 45 = .ok (.bipush 8, 2) := dk_16 8 (dk_at dksJ17_numberOfTrailingZeros_1 22 rfl rfl)
theorem dJ17_numberOfTrailingZeros_47 : decode cJ17_numberOfTrailingZeros 47 = .ok (.iushr, 1) := dk_124 (dk_at dksJ17_numberOfTrailingZeros_2 0 rfl rfl)
theorem dJ17_numberOfTrailingZeros_48 : decode cJ17_numberOfTrailingZeros 48 = .ok (.istore_n 0, 1) := dk_59 (dk_at dksJ17_numberOfTrailingZeros_2 1 rfl rfl)
theorem dJ17_numberOfTrailingZeros_49 : decode cJ17_numberOfTrailingZeros 49 = .ok (.iload_n 0, 1) := dk_26 (dk_at dksJ17_numberOfTrailingZeros_2 2 rfl rfl)
theorem dJ17_numberOfTrailingZeros_50 : decode cJ17_numberOfTrailingZeros 50 = .ok (.bipush 16, 2) := dk_16 16 (dk_at dksJ17_numberOfTrailingZeros_2 3 rfl rfl)
theorem dJ17_numberOfTrailingZeros_52 : decode cJ17_numberOfTrailingZeros 52 = .ok (.if_icmp .le 10, 3) := dk_164 0 10 (dk_at dksJ17_numberOfTrailingZeros_2 5 rfl rfl)
theorem dJ17_numberOfTrailingZeros_55 : decode cJ17_numberOfTrailingZeros 55 = .ok (.iinc 1 4, 3) := dk_132 1 4 (dk_at dksJ17_numberOfTrailingZeros_2 8 rfl rfl)
theorem dJ17_numberOfTrailingZeros_58 : decode cJ17_numberOfTrailingZeros 58 = .ok (.iload_n 0, 1) := dk_26 (dk_at dksJ17_numberOfTrailingZeros_2 11 rfl rfl)
theorem dJ17_numberOfTrailingZeros_59 : decode cJ17_numberOfTrailingZeros 59 = .ok (.iconst 4, 1) := dk_7 (dk_at dksJ17_numberOfTrailingZeros_2 12 rfl rfl)
theorem dJ17_numberOfTrailingZeros_60 : decode cJ17_numberOfTrailingZeros 60 = .ok (.iushr, 1) := dk_124 (dk_at dksJ17_numberOfTrailingZeros_2 13 rfl rfl)
theorem dJ17_numberOfTrailingZeros_61 : decode cJ17_numberOfTrailingZeros 61 = .ok (.istore_n 0, 1) := dk_59 (dk_at dksJ17_numberOfTrailingZeros_2 14 rfl rfl)
theorem dJ17_numberOfTrailingZeros_62 : decode cJ17_numberOfTrailingZeros 62 = .ok (.iload_n 0, 1) := dk_26 (dk_at dksJ17_numberOfTrailingZeros_2 15 rfl rfl)
theorem dJ17_numberOfTrailingZeros_63 : decode cJ17_numberOfTrailingZeros 63 = .ok (.iconst 4, 1) := dk_7 (dk_at dksJ17_numberOfTrailingZeros_2 16 rfl rfl)
theorem dJ17_numberOfTrailingZeros_64 : decode cJ17_numberOfTrailingZeros 64 = .ok (.if_icmp .le 10, 3) := dk_164 0 10 (dk_at dksJ17_numberOfTrailingZeros_2 17 rfl rfl)
theorem dJ17_numberOfTrailingZeros_67 : decode cJ17_numberOfTrailingZeros 67 = .ok (.iinc 1 2, 3) := dk_132 1 2 (dk_at dksJ17_numberOfTrailingZeros_2 20 rfl rfl)
theorem dJ17_numberOfTrailingZeros_70 : decode cJ17_numberOfTrailingZeros 70 = .ok (.iload_n 0, 1) := dk_26 (dk_at dksJ17_numberOfTrailingZeros_2 23 rfl rfl)
theorem dJ17_numberOfTrailingZeros_71 : decode cJ17_numberOfTrailingZeros 71 = .ok (.iconst 2, 1) := dk_5 (dk_at dksJ17_numberOfTrailingZeros_3 0 rfl rfl)
theorem dJ17_numberOfTrailingZeros_72 : decode cJ17_numberOfTrailingZeros 72 = .ok (.iushr, 1) := dk_124 (dk_at dksJ17_numberOfTrailingZeros_3 1 rfl rfl)
theorem dJ17_numberOfTrailingZeros_73 : decode cJ17_numberOfTrailingZeros 73 = .ok (.istore_n 0, 1) := dk_59 (dk_at dksJ17_numberOfTrailingZeros_3 2 rfl rfl)
theorem dJ17_numberOfTrailingZeros_74 : decode cJ17_numberOfTrailingZeros 74 = .ok (.iload_n 1, 1) := dk_27 (dk_at dksJ17_numberOfTrailingZeros_3 3 rfl rfl)
theorem dJ17_numberOfTrailingZeros_75 : decode cJ17_numberOfTrailingZeros 75 = .ok (.iload_n 0, 1) := dk_26 (dk_at dksJ17_numberOfTrailingZeros_3 4 rfl rfl)
theorem dJ17_numberOfTrailingZeros_76 : decode cJ17_numberOfTrailingZeros 76 = .ok (.iconst 1, 1) := dk_4 (dk_at dksJ17_numberOfTrailingZeros_3 5 rfl rfl)
theorem dJ17_numberOfTrailingZeros_77 : decode cJ17_numberOfTrailingZeros 77 = .ok (.iushr, 1) := dk_124 (dk_at dksJ17_numberOfTrailingZeros_3 6 rfl rfl)
theorem dJ17_numberOfTrailingZeros_78 : decode cJ17_numberOfTrailingZeros 78 = .ok (.iadd, 1) := dk_96 (dk_at dksJ17_numberOfTrailingZeros_3 7 rfl rfl)
theorem dJ17_numberOfTrailingZeros_79 : decode cJ17_numberOfTrailingZeros 79 = .ok (.ireturn, 1) := dk_172 (dk_at dksJ17_numberOfTrailingZeros_3 8 rfl rfl)
theorem q145 : (Jvm.Cond.initialized "java/lang/Integer") ∈ lw_all := lw_g (lw_at lw_m1 21 rfl) rfl
theorem q402 : (Jvm.Cond.static ({ cls := "java/lang/Integer", name := "stringSize", desc := "(I)I" } : Jvm.MethodName)) ∈ lw_all := lw_g (lw_at lw_m2 38 rfl) rfl
theorem q403 : (Jvm.Cond.code ({ cls := "java/lang/Integer", name := "stringSize", desc := "(I)I" } : Jvm.MethodName) prog_31_method_13_code (4 : Nat) (Option.some Jvm.ClassFile.FieldType.int)) ∈ lw_all := lw_g (lw_at lw_m2 39 rfl) rfl
theorem q405 : (Jvm.Cond.static ({ cls := "java/lang/Integer", name := "getChars", desc := "(II[B)I" } : Jvm.MethodName)) ∈ lw_all := lw_g (lw_at lw_m2 41 rfl) rfl
theorem q406 : (Jvm.Cond.code ({ cls := "java/lang/Integer", name := "getChars", desc := "(II[B)I" } : Jvm.MethodName) prog_31_method_12_code (7 : Nat) (Option.some Jvm.ClassFile.FieldType.int)) ∈ lw_all := lw_g (lw_at lw_m2 42 rfl) rfl
theorem q407 : (Jvm.Cond.fieldLink "java/lang/Integer" (83 : Nat) "java/lang/Integer" "DigitOnes" "[B") ∈ lw_all := lw_g (lw_at lw_m2 43 rfl) rfl
theorem q408 : (Jvm.Cond.laysStatic "java/lang/Integer" "DigitOnes" "[B") ∈ lw_tbl := lw_at lw_m2 44 rfl
theorem q409 : (Jvm.Cond.fieldLink "java/lang/Integer" (87 : Nat) "java/lang/Integer" "DigitTens" "[B") ∈ lw_all := lw_g (lw_at lw_m2 45 rfl) rfl
theorem q410 : (Jvm.Cond.laysStatic "java/lang/Integer" "DigitTens" "[B") ∈ lw_tbl := lw_at lw_m2 46 rfl
theorem q902 : (Jvm.Cond.instanceMethod ({ cls := "java/lang/Integer", name := "intValue", desc := "()I" } : Jvm.MethodName)) ∈ lw_all := lw_g (lw_at lw_m4 58 rfl) rfl
theorem q903 : (Jvm.Cond.selects "java/lang/Integer" ({ cls := "java/lang/Integer", name := "intValue", desc := "()I" } : Jvm.MethodName) ({ cls := "java/lang/Integer", name := "intValue", desc := "()I" } : Jvm.MethodName)) ∈ lw_all := lw_g (lw_at lw_m4 59 rfl) rfl
theorem q904 : (Jvm.Cond.code ({ cls := "java/lang/Integer", name := "intValue", desc := "()I" } : Jvm.MethodName) prog_31_method_27_code (1 : Nat) (Option.some Jvm.ClassFile.FieldType.int)) ∈ lw_all := lw_g (lw_at lw_m4 60 rfl) rfl
theorem q956 : (Jvm.Cond.static ({ cls := "java/lang/Integer", name := "bitCount", desc := "(I)I" } : Jvm.MethodName)) ∈ lw_all := lw_g (lw_at lw_m4 112 rfl) rfl
theorem q957 : (Jvm.Cond.code ({ cls := "java/lang/Integer", name := "bitCount", desc := "(I)I" } : Jvm.MethodName) prog_31_method_49_code (1 : Nat) (Option.some Jvm.ClassFile.FieldType.int)) ∈ lw_all := lw_g (lw_at lw_m4 113 rfl) rfl
theorem q958 : (Jvm.Cond.constant "java/lang/Integer" (265 : Nat) (1431655765 : Int32)) ∈ lw_all := lw_g (lw_at lw_m4 114 rfl) rfl
theorem q959 : (Jvm.Cond.constant "java/lang/Integer" (266 : Nat) (858993459 : Int32)) ∈ lw_all := lw_g (lw_at lw_m4 115 rfl) rfl
theorem q960 : (Jvm.Cond.constant "java/lang/Integer" (267 : Nat) (252645135 : Int32)) ∈ lw_all := lw_g (lw_at lw_m4 116 rfl) rfl
theorem q1305 : (Jvm.Cond.selects "java/lang/Integer" ({ cls := "java/lang/Object", name := "getClass", desc := "()Ljava/lang/Class;" } : Jvm.MethodName) ({ cls := "java/lang/Object", name := "getClass", desc := "()Ljava/lang/Class;" } : Jvm.MethodName)) ∈ lw_all := lw_g (lw_at lw_m5 221 rfl) rfl
theorem q1506 : (Jvm.Cond.static ({ cls := "java/lang/Integer", name := "valueOf", desc := "(I)Ljava/lang/Integer;" } : Jvm.MethodName)) ∈ lw_all := lw_g (lw_at lw_m6 182 rfl) rfl
theorem q1507 : (Jvm.Cond.code ({ cls := "java/lang/Integer", name := "valueOf", desc := "(I)Ljava/lang/Integer;" } : Jvm.MethodName) prog_31_method_22_code (1 : Nat) (Option.some (Jvm.ClassFile.FieldType.object "java/lang/Integer"))) ∈ lw_all := lw_g (lw_at lw_m6 183 rfl) rfl
theorem q1508 : (Jvm.Cond.fieldLink "java/lang/Integer" (191 : Nat) "java/lang/Integer$IntegerCache" "high" "I") ∈ lw_all := lw_g (lw_at lw_m6 184 rfl) rfl
theorem q1510 : (Jvm.Cond.fieldLink "java/lang/Integer" (195 : Nat) "java/lang/Integer$IntegerCache" "cache" "[Ljava/lang/Integer;") ∈ lw_all := lw_g (lw_at lw_m6 186 rfl) rfl
theorem q1512 : (Jvm.Cond.classLink "java/lang/Integer" (1 : Nat) "java/lang/Integer") ∈ lw_all := lw_g (lw_at lw_m6 188 rfl) rfl
theorem q1513 : (Jvm.Cond.instantiable "java/lang/Integer" (1 : Nat)) ∈ lw_all := lw_g (lw_at lw_m6 189 rfl) rfl
theorem q1514 : (Jvm.Cond.methodLink "java/lang/Integer" (199 : Nat) ({ cls := "java/lang/Integer", name := "<init>", desc := "(I)V" } : Jvm.MethodName)) ∈ lw_all := lw_g (lw_at lw_m6 190 rfl) rfl
theorem q1515 : (Jvm.Cond.instanceMethod ({ cls := "java/lang/Integer", name := "<init>", desc := "(I)V" } : Jvm.MethodName)) ∈ lw_all := lw_g (lw_at lw_m6 191 rfl) rfl
theorem q1516 : (Jvm.Cond.code ({ cls := "java/lang/Integer", name := "<init>", desc := "(I)V" } : Jvm.MethodName) prog_31_method_23_code (2 : Nat) (Option.none : Option Jvm.ClassFile.FieldType)) ∈ lw_all := lw_g (lw_at lw_m6 192 rfl) rfl
theorem q1517 : (Jvm.Cond.methodLink "java/lang/Integer" (202 : Nat) ({ cls := "java/lang/Number", name := "<init>", desc := "()V" } : Jvm.MethodName)) ∈ lw_all := lw_g (lw_at lw_m6 193 rfl) rfl
theorem q1521 : (Jvm.Cond.fieldLink "java/lang/Integer" (205 : Nat) "java/lang/Integer" "value" "I") ∈ lw_all := lw_g (lw_at lw_m6 197 rfl) rfl
theorem q1522 : (Jvm.Cond.laysFinal "java/lang/Integer" "java/lang/Integer" "value" "I") ∈ lw_all := lw_g (lw_at lw_m6 198 rfl) rfl
theorem q1523 : (Jvm.Cond.soleField "java/lang/Integer" "value") ∈ lw_all := lw_g (lw_at lw_m6 199 rfl) rfl
theorem q1524 : (Jvm.Cond.superclass "java/lang/Integer" "java/lang/Number") ∈ lw_all := lw_g (lw_at lw_m6 200 rfl) rfl
theorem q1755 : (Jvm.Cond.static ({ cls := "java/lang/Integer", name := "numberOfTrailingZeros", desc := "(I)I" } : Jvm.MethodName)) ∈ lw_all := lw_g (lw_at lw_m7 191 rfl) rfl
theorem q1756 : (Jvm.Cond.code ({ cls := "java/lang/Integer", name := "numberOfTrailingZeros", desc := "(I)I" } : Jvm.MethodName) prog_31_method_48_code (2 : Nat) (Option.some Jvm.ClassFile.FieldType.int)) ∈ lw_all := lw_g (lw_at lw_m7 192 rfl) rfl
theorem q1757 : (Jvm.Cond.constant "java/lang/Integer" (264 : Nat) (65536 : Int32)) ∈ lw_all := lw_g (lw_at lw_m7 193 rfl) rfl
theorem q2728 : (Jvm.Cond.castable "java/lang/Integer" "java/lang/Object") ∈ lw_tbl := lw_at lw_m11 204 rfl

def RJ18 : String := "java/util/Objects"
abbrev cJ18_checkIndex : ByteArray := prog_53_method_17_code
def yJ18_checkIndex : MethodName := ⟨RJ18, "checkIndex", "(II)I"⟩
def dkwJ18_checkIndex_0 : List UInt8 := [26, 27, 1, 184, 0, 105, 172]
abbrev dktJ18_checkIndex_0 : List UInt8 := dkwJ18_checkIndex_0 ++ []
theorem dksJ18_checkIndex_0 : cJ18_checkIndex.data.toList.drop 0 = dktJ18_checkIndex_0 := by decide +kernel
theorem dJ18_checkIndex_0 : decode cJ18_checkIndex 0 = .ok (.iload_n 0, 1) := dk_26 (dk_at dksJ18_checkIndex_0 0 rfl rfl)
theorem dJ18_checkIndex_1 : decode cJ18_checkIndex 1 = .ok (.iload_n 1, 1) := dk_27 (dk_at dksJ18_checkIndex_0 1 rfl rfl)
theorem dJ18_checkIndex_2 : decode cJ18_checkIndex 2 = .ok (.aconst_null, 1) := dk_1 (dk_at dksJ18_checkIndex_0 2 rfl rfl)
theorem dJ18_checkIndex_3 : decode cJ18_checkIndex 3 = .ok (.invokestatic 105, 3) := dk_184 0 105 (dk_at dksJ18_checkIndex_0 3 rfl rfl)
theorem dJ18_checkIndex_6 : decode cJ18_checkIndex 6 = .ok (.ireturn, 1) := dk_172 (dk_at dksJ18_checkIndex_0 6 rfl rfl)
theorem q149 : (Jvm.Cond.initialized "java/util/Objects") ∈ lw_all := lw_g (lw_at lw_m1 25 rfl) rfl
theorem q683 : (Jvm.Cond.static ({ cls := "java/util/Objects", name := "checkIndex", desc := "(II)I" } : Jvm.MethodName)) ∈ lw_all := lw_g (lw_at lw_m3 79 rfl) rfl
theorem q684 : (Jvm.Cond.code ({ cls := "java/util/Objects", name := "checkIndex", desc := "(II)I" } : Jvm.MethodName) prog_53_method_17_code (2 : Nat) (Option.some Jvm.ClassFile.FieldType.int)) ∈ lw_all := lw_g (lw_at lw_m3 80 rfl) rfl
theorem q685 : (Jvm.Cond.methodLink "java/util/Objects" (105 : Nat) ({ cls := "jdk/internal/util/Preconditions", name := "checkIndex", desc := "(IILjava/util/function/BiFunction;)I" } : Jvm.MethodName)) ∈ lw_all := lw_g (lw_at lw_m3 81 rfl) rfl

def RJ19 : String := "java/lang/Long"
abbrev cJ19_bitCount : ByteArray := prog_34_method_50_code
def yJ19_bitCount : MethodName := ⟨RJ19, "bitCount", "(J)I"⟩
def dkwJ19_bitCount_2 : List UInt8 := [30, 30, 16, 32, 125, 97, 63, 30, 136, 16, 127, 126, 172]
abbrev dktJ19_bitCount_2 : List UInt8 := dkwJ19_bitCount_2 ++ []
def dkwJ19_bitCount_1 : List UInt8 := [30, 30, 7, 125, 97, 20, 1, 62, 127, 63, 30, 30, 16, 8, 125, 97, 63, 30, 30, 16, 16, 125, 97, 63]
abbrev dktJ19_bitCount_1 : List UInt8 := dkwJ19_bitCount_1 ++ dktJ19_bitCount_2
def dkwJ19_bitCount_0 : List UInt8 := [30, 30, 4, 125, 20, 1, 58, 127, 101, 63, 30, 20, 1, 60, 127, 30, 5, 125, 20, 1, 60, 127, 97, 63]
abbrev dktJ19_bitCount_0 : List UInt8 := dkwJ19_bitCount_0 ++ dktJ19_bitCount_1
theorem dksJ19_bitCount_0 : cJ19_bitCount.data.toList.drop 0 = dktJ19_bitCount_0 := by decide +kernel
theorem dksJ19_bitCount_1 : cJ19_bitCount.data.toList.drop 24 = dktJ19_bitCount_1 := dk_seg dksJ19_bitCount_0 24 rfl rfl
theorem dksJ19_bitCount_2 : cJ19_bitCount.data.toList.drop 48 = dktJ19_bitCount_2 := dk_seg dksJ19_bitCount_1 24 rfl rfl
theorem dJ19_bitCount_0 : decode cJ19_bitCount 0 = .ok (.lload_n 0, 1) := dk_30 (dk_at dksJ19_bitCount_0 0 rfl rfl)
theorem dJ19_bitCount_1 : decode cJ19_bitCount 1 = .ok (.lload_n 0, 1) := dk_30 (dk_at dksJ19_bitCount_0 1 rfl rfl)
theorem dJ19_bitCount_2 : decode cJ19_bitCount 2 = .ok (.iconst 1, 1) := dk_4 (dk_at dksJ19_bitCount_0 2 rfl rfl)
theorem dJ19_bitCount_3 : decode cJ19_bitCount 3 = .ok (.lushr, 1) := dk_125 (dk_at dksJ19_bitCount_0 3 rfl rfl)
theorem dJ19_bitCount_4 : decode cJ19_bitCount 4 = .ok (.ldc2_w 314, 3) := dk_20 1 58 (dk_at dksJ19_bitCount_0 4 rfl rfl)
theorem dJ19_bitCount_7 : decode cJ19_bitCount 7 = .ok (.land, 1) := dk_127 (dk_at dksJ19_bitCount_0 7 rfl rfl)
theorem dJ19_bitCount_8 : decode cJ19_bitCount 8 = .ok (.lsub, 1) := dk_101 (dk_at dksJ19_bitCount_0 8 rfl rfl)
theorem dJ19_bitCount_9 : decode cJ19_bitCount 9 = .ok (.lstore_n 0, 1) := dk_63 (dk_at dksJ19_bitCount_0 9 rfl rfl)
theorem dJ19_bitCount_10 : decode cJ19_bitCount 10 = .ok (.lload_n 0, 1) := dk_30 (dk_at dksJ19_bitCount_0 10 rfl rfl)
theorem dJ19_bitCount_11 : decode cJ19_bitCount 11 = .ok (.ldc2_w 316, 3) := dk_20 1 60 (dk_at dksJ19_bitCount_0 11 rfl rfl)
theorem dJ19_bitCount_14 : decode cJ19_bitCount 14 = .ok (.land, 1) := dk_127 (dk_at dksJ19_bitCount_0 14 rfl rfl)
theorem dJ19_bitCount_15 : decode cJ19_bitCount 15 = .ok (.lload_n 0, 1) := dk_30 (dk_at dksJ19_bitCount_0 15 rfl rfl)
theorem dJ19_bitCount_16 : decode cJ19_bitCount 16 = .ok (.iconst 2, 1) := dk_5 (dk_at dksJ19_bitCount_0 16 rfl rfl)
theorem dJ19_bitCount_17 : decode cJ19_bitCount 17 = .ok (.lushr, 1) := dk_125 (dk_at dksJ19_bitCount_0 17 rfl rfl)
theorem dJ19_bitCount_18 : decode cJ19_bitCount 18 = .ok (.ldc2_w 316, 3) := dk_20 1 60 (dk_at dksJ19_bitCount_0 18 rfl rfl)
theorem dJ19_bitCount_21 : decode cJ19_bitCount 21 = .ok (.land, 1) := dk_127 (dk_at dksJ19_bitCount_0 21 rfl rfl)
theorem dJ19_bitCount_22 : decode cJ19_bitCount 22 = .ok (.ladd, 1) := dk_97 (dk_at dksJ19_bitCount_0 22 rfl rfl)
theorem dJ19_bitCount_23 : decode cJ19_bitCount 23 = .ok (.lstore_n 0, 1) := dk_63 (dk_at dksJ19_bitCount_0 23 rfl rfl)
theorem dJ19_bitCount_24 : decode cJ19_bitCount 24 = .ok (.lload_n 0, 1) := dk_30 (dk_at dksJ19_bitCount_1 0 rfl rfl)
theorem dJ19_bitCount_25 : decode cJ19_bitCount 25 = .ok (.lload_n 0, 1) := dk_30 (dk_at dksJ19_bitCount_1 1 rfl rfl)
theorem dJ19_bitCount_26 : decode cJ19_bitCount 26 = .ok (.iconst 4, 1) := dk_7 (dk_at dksJ19_bitCount_1 2 rfl rfl)
theorem dJ19_bitCount_27 : decode cJ19_bitCount 27 = .ok (.lushr, 1) := dk_125 (dk_at dksJ19_bitCount_1 3 rfl rfl)
theorem dJ19_bitCount_28 : decode cJ19_bitCount 28 = .ok (.ladd, 1) := dk_97 (dk_at dksJ19_bitCount_1 4 rfl rfl)
theorem dJ19_bitCount_29 : decode cJ19_bitCount 29 = .ok (.ldc2_w 318, 3) := dk_20 1 62 (dk_at dksJ19_bitCount_1 5 rfl rfl)
theorem dJ19_bitCount_32 : decode cJ19_bitCount 32 = .ok (.land, 1) := dk_127 (dk_at dksJ19_bitCount_1 8 rfl rfl)
theorem dJ19_bitCount_33 : decode cJ19_bitCount 33 = .ok (.lstore_n 0, 1) := dk_63 (dk_at dksJ19_bitCount_1 9 rfl rfl)
theorem dJ19_bitCount_34 : decode cJ19_bitCount 34 = .ok (.lload_n 0, 1) := dk_30 (dk_at dksJ19_bitCount_1 10 rfl rfl)
theorem dJ19_bitCount_35 : decode cJ19_bitCount 35 = .ok (.lload_n 0, 1) := dk_30 (dk_at dksJ19_bitCount_1 11 rfl rfl)
theorem dJ19_bitCount_36 : decode cJ19_bitCount 36 = .ok (.bipush 8, 2) := dk_16 8 (dk_at dksJ19_bitCount_1 12 rfl rfl)
theorem dJ19_bitCount_38 : decode cJ19_bitCount 38 = .ok (.lushr, 1) := dk_125 (dk_at dksJ19_bitCount_1 14 rfl rfl)
theorem dJ19_bitCount_39 : decode cJ19_bitCount 39 = .ok (.ladd, 1) := dk_97 (dk_at dksJ19_bitCount_1 15 rfl rfl)
theorem dJ19_bitCount_40 : decode cJ19_bitCount 40 = .ok (.lstore_n 0, 1) := dk_63 (dk_at dksJ19_bitCount_1 16 rfl rfl)
theorem dJ19_bitCount_41 : decode cJ19_bitCount 41 = .ok (.lload_n 0, 1) := dk_30 (dk_at dksJ19_bitCount_1 17 rfl rfl)
theorem dJ19_bitCount_42 : decode cJ19_bitCount 42 = .ok (.lload_n 0, 1) := dk_30 (dk_at dksJ19_bitCount_1 18 rfl rfl)
theorem dJ19_bitCount_43 : decode cJ19_bitCount 43 = .ok (.bipush 16, 2) := dk_16 16 (dk_at dksJ19_bitCount_1 19 rfl rfl)
theorem dJ19_bitCount_45 : decode cJ19_bitCount 45 = .ok (.lushr, 1) := dk_125 (dk_at dksJ19_bitCount_1 21 rfl rfl)
theorem dJ19_bitCount_46 : decode cJ19_bitCount 46 = .ok (.ladd, 1) := dk_97 (dk_at dksJ19_bitCount_1 22 rfl rfl)
theorem dJ19_bitCount_47 : decode cJ19_bitCount 47 = .ok (.lstore_n 0, 1) := dk_63 (dk_at dksJ19_bitCount_1 23 rfl rfl)
theorem dJ19_bitCount_48 : decode cJ19_bitCount 48 = .ok (.lload_n 0, 1) := dk_30 (dk_at dksJ19_bitCount_2 0 rfl rfl)
theorem dJ19_bitCount_49 : decode cJ19_bitCount 49 = .ok (.lload_n 0, 1) := dk_30 (dk_at dksJ19_bitCount_2 1 rfl rfl)
theorem dJ19_bitCount_50 : decode cJ19_bitCount 50 = .ok (.bipush 32, 2) := dk_16 32 (dk_at dksJ19_bitCount_2 2 rfl rfl)
theorem dJ19_bitCount_52 : decode cJ19_bitCount 52 = .ok (.lushr, 1) := dk_125 (dk_at dksJ19_bitCount_2 4 rfl rfl)
theorem dJ19_bitCount_53 : decode cJ19_bitCount 53 = .ok (.ladd, 1) := dk_97 (dk_at dksJ19_bitCount_2 5 rfl rfl)
theorem dJ19_bitCount_54 : decode cJ19_bitCount 54 = .ok (.lstore_n 0, 1) := dk_63 (dk_at dksJ19_bitCount_2 6 rfl rfl)
theorem dJ19_bitCount_55 : decode cJ19_bitCount 55 = .ok (.lload_n 0, 1) := dk_30 (dk_at dksJ19_bitCount_2 7 rfl rfl)
theorem dJ19_bitCount_56 : decode cJ19_bitCount 56 = .ok (.l2i, 1) := dk_136 (dk_at dksJ19_bitCount_2 8 rfl rfl)
theorem dJ19_bitCount_57 : decode cJ19_bitCount 57 = .ok (.bipush 127, 2) := dk_16 127 (dk_at dksJ19_bitCount_2 9 rfl rfl)
theorem dJ19_bitCount_59 : decode cJ19_bitCount 59 = .ok (.iand, 1) := dk_126 (dk_at dksJ19_bitCount_2 11 rfl rfl)
theorem dJ19_bitCount_60 : decode cJ19_bitCount 60 = .ok (.ireturn, 1) := dk_172 (dk_at dksJ19_bitCount_2 12 rfl rfl)
theorem q154 : (Jvm.Cond.initialized "java/lang/Long") ∈ lw_all := lw_g (lw_at lw_m1 30 rfl) rfl
theorem q861 : (Jvm.Cond.static ({ cls := "java/lang/Long", name := "bitCount", desc := "(J)I" } : Jvm.MethodName)) ∈ lw_all := lw_g (lw_at lw_m4 17 rfl) rfl
theorem q862 : (Jvm.Cond.code ({ cls := "java/lang/Long", name := "bitCount", desc := "(J)I" } : Jvm.MethodName) prog_34_method_50_code (2 : Nat) (Option.some Jvm.ClassFile.FieldType.int)) ∈ lw_all := lw_g (lw_at lw_m4 18 rfl) rfl
theorem q863 : (Jvm.Cond.constantLong "java/lang/Long" (314 : Nat) (6148914691236517205 : Int64)) ∈ lw_all := lw_g (lw_at lw_m4 19 rfl) rfl
theorem q864 : (Jvm.Cond.constantLong "java/lang/Long" (316 : Nat) (3689348814741910323 : Int64)) ∈ lw_all := lw_g (lw_at lw_m4 20 rfl) rfl
theorem q865 : (Jvm.Cond.constantLong "java/lang/Long" (318 : Nat) (1085102592571150095 : Int64)) ∈ lw_all := lw_g (lw_at lw_m4 21 rfl) rfl

def RJ20 : String := "java/lang/IndexOutOfBoundsException"
def TJ20 : u_T := fun k => match k with
  | 0 => ("java/lang/Throwable", "cause", "Ljava/lang/Throwable;", false)
  | 1 => ("java/lang/Throwable", "stackTrace", "[Ljava/lang/StackTraceElement;", false)
  | 2 => ("java/lang/Throwable", "suppressedExceptions", "Ljava/util/List;", false)
  | 3 => ("java/lang/Throwable", "detailMessage", "Ljava/lang/String;", false)
  | 4 => ("java/lang/Throwable", "backtrace", "Ljava/lang/Object;", false)
  | _ => ("java/lang/Throwable", "depth", "I", false)
def tyJ20 : Nat → FieldType := fun k => match k with
  | 0 => .object "java/lang/Throwable"
  | 1 => .array (.object "java/lang/StackTraceElement")
  | 2 => .object "java/util/List"
  | 3 => .object "java/lang/String"
  | 4 => .object "java/lang/Object"
  | _ => .int
abbrev wsJ200 : List Cond := u_ws RJ20 TJ20 6
theorem nmJ20 : ∀ a, a < 6 → ∀ b, b < 6 → a ≠ b → (TJ20 a).2.1 ≠ (TJ20 b).2.1 := by decide +kernel
theorem tyJ20_ok : ∀ k, k < 6 → parseFieldDescriptor (TJ20 k).2.2.1 = some (tyJ20 k) := by decide +kernel
abbrev cJ20_init : ByteArray := prog_30_method_2_code
def yJ20_init : MethodName := ⟨RJ20, "<init>", "(Ljava/lang/String;)V"⟩
def dkwJ20_init_0 : List UInt8 := [42, 43, 183, 0, 7, 177]
abbrev dktJ20_init_0 : List UInt8 := dkwJ20_init_0 ++ []
theorem dksJ20_init_0 : cJ20_init.data.toList.drop 0 = dktJ20_init_0 := by decide +kernel
theorem dJ20_init_0 : decode cJ20_init 0 = .ok (.aload_n 0, 1) := dk_42 (dk_at dksJ20_init_0 0 rfl rfl)
theorem dJ20_init_1 : decode cJ20_init 1 = .ok (.aload_n 1, 1) := dk_43 (dk_at dksJ20_init_0 1 rfl rfl)
theorem dJ20_init_2 : decode cJ20_init 2 = .ok (.invokespecial 7, 3) := dk_183 0 7 (dk_at dksJ20_init_0 2 rfl rfl)
theorem dJ20_init_5 : decode cJ20_init 5 = .ok (.return_, 1) := dk_177 (dk_at dksJ20_init_0 5 rfl rfl)
abbrev cJ20_init_2 : ByteArray := prog_30_method_1_code
def yJ20_init_2 : MethodName := ⟨RJ20, "<init>", "()V"⟩
theorem dJ20_init_2_0 : decode cJ20_init_2 0 = .ok (.aload_n 0, 1) := by decide +kernel
theorem dJ20_init_2_1 : decode cJ20_init_2 1 = .ok (.invokespecial 1, 3) := by decide +kernel
theorem dJ20_init_2_4 : decode cJ20_init_2 4 = .ok (.return_, 1) := by decide +kernel
theorem q165 : (Jvm.Cond.initialized "java/lang/IndexOutOfBoundsException") ∈ lw_all := lw_g (lw_at lw_m1 41 rfl) rfl
theorem q234 : (Jvm.Cond.selects "java/lang/IndexOutOfBoundsException" ({ cls := "java/lang/Throwable", name := "fillInStackTrace", desc := "()Ljava/lang/Throwable;" } : Jvm.MethodName) ({ cls := "java/lang/Throwable", name := "fillInStackTrace", desc := "()Ljava/lang/Throwable;" } : Jvm.MethodName)) ∈ lw_all := lw_g (lw_at lw_m1 110 rfl) rfl
theorem q1304 : (Jvm.Cond.selects "java/lang/IndexOutOfBoundsException" ({ cls := "java/lang/Object", name := "getClass", desc := "()Ljava/lang/Class;" } : Jvm.MethodName) ({ cls := "java/lang/Object", name := "getClass", desc := "()Ljava/lang/Class;" } : Jvm.MethodName)) ∈ lw_all := lw_g (lw_at lw_m5 220 rfl) rfl
theorem q1573 : (Jvm.Cond.instanceMethod ({ cls := "java/lang/IndexOutOfBoundsException", name := "<init>", desc := "(Ljava/lang/String;)V" } : Jvm.MethodName)) ∈ lw_all := lw_g (lw_at lw_m7 9 rfl) rfl
theorem q1574 : (Jvm.Cond.code ({ cls := "java/lang/IndexOutOfBoundsException", name := "<init>", desc := "(Ljava/lang/String;)V" } : Jvm.MethodName) prog_30_method_2_code (2 : Nat) (Option.none : Option Jvm.ClassFile.FieldType)) ∈ lw_all := lw_g (lw_at lw_m7 10 rfl) rfl
theorem q1575 : (Jvm.Cond.methodLink "java/lang/IndexOutOfBoundsException" (7 : Nat) ({ cls := "java/lang/RuntimeException", name := "<init>", desc := "(Ljava/lang/String;)V" } : Jvm.MethodName)) ∈ lw_all := lw_g (lw_at lw_m7 11 rfl) rfl
theorem q1584 : (Jvm.Cond.declares ({ cls := "java/lang/IndexOutOfBoundsException", name := "<init>", desc := "()V" } : Jvm.MethodName)) ∈ lw_tbl := lw_at lw_m7 20 rfl
theorem q1585 : (Jvm.Cond.declares ({ cls := "java/lang/IndexOutOfBoundsException", name := "<init>", desc := "(Ljava/lang/String;)V" } : Jvm.MethodName)) ∈ lw_tbl := lw_at lw_m7 21 rfl
theorem q1596 : (Jvm.Cond.instantiable "java/lang/IndexOutOfBoundsException" (6 : Nat)) ∈ lw_all := lw_g (lw_at lw_m7 32 rfl) rfl
theorem q1597 : (Jvm.Cond.castable "java/lang/IndexOutOfBoundsException" "java/lang/IndexOutOfBoundsException") ∈ lw_tbl := lw_at lw_m7 33 rfl
theorem q1598 : (Jvm.Cond.selects "java/lang/IndexOutOfBoundsException" ({ cls := "java/lang/Throwable", name := "fillInStackTrace", desc := "(I)Ljava/lang/Throwable;" } : Jvm.MethodName) ({ cls := "java/lang/Throwable", name := "fillInStackTrace", desc := "(I)Ljava/lang/Throwable;" } : Jvm.MethodName)) ∈ lw_all := lw_g (lw_at lw_m7 34 rfl) rfl
theorem q1599 : (Jvm.Cond.lays "java/lang/IndexOutOfBoundsException" "java/lang/Throwable" "cause" "Ljava/lang/Throwable;") ∈ lw_all := lw_g (lw_at lw_m7 35 rfl) rfl
theorem q1600 : (Jvm.Cond.lays "java/lang/IndexOutOfBoundsException" "java/lang/Throwable" "stackTrace" "[Ljava/lang/StackTraceElement;") ∈ lw_all := lw_g (lw_at lw_m7 36 rfl) rfl
theorem q1601 : (Jvm.Cond.lays "java/lang/IndexOutOfBoundsException" "java/lang/Throwable" "suppressedExceptions" "Ljava/util/List;") ∈ lw_all := lw_g (lw_at lw_m7 37 rfl) rfl
theorem q1602 : (Jvm.Cond.lays "java/lang/IndexOutOfBoundsException" "java/lang/Throwable" "detailMessage" "Ljava/lang/String;") ∈ lw_all := lw_g (lw_at lw_m7 38 rfl) rfl
theorem q1603 : (Jvm.Cond.lays "java/lang/IndexOutOfBoundsException" "java/lang/Throwable" "backtrace" "Ljava/lang/Object;") ∈ lw_all := lw_g (lw_at lw_m7 39 rfl) rfl
theorem q1605 : (Jvm.Cond.instanceMethod ({ cls := "java/lang/IndexOutOfBoundsException", name := "<init>", desc := "()V" } : Jvm.MethodName)) ∈ lw_all := lw_g (lw_at lw_m7 41 rfl) rfl
theorem q1606 : (Jvm.Cond.code ({ cls := "java/lang/IndexOutOfBoundsException", name := "<init>", desc := "()V" } : Jvm.MethodName) prog_30_method_1_code (1 : Nat) (Option.none : Option Jvm.ClassFile.FieldType)) ∈ lw_all := lw_g (lw_at lw_m7 42 rfl) rfl
theorem q1607 : (Jvm.Cond.methodLink "java/lang/IndexOutOfBoundsException" (1 : Nat) ({ cls := "java/lang/RuntimeException", name := "<init>", desc := "()V" } : Jvm.MethodName)) ∈ lw_all := lw_g (lw_at lw_m7 43 rfl) rfl
theorem q1608 : (Jvm.Cond.lays "java/lang/IndexOutOfBoundsException" "java/lang/Throwable" "depth" "I") ∈ lw_all := lw_g (lw_at lw_m7 44 rfl) rfl
theorem q1609 : (Jvm.Cond.superclass "java/lang/IndexOutOfBoundsException" "java/lang/RuntimeException") ∈ lw_all := lw_g (lw_at lw_m7 45 rfl) rfl
theorem q2731 : (Jvm.Cond.castable "java/lang/IndexOutOfBoundsException" "java/lang/Object") ∈ lw_tbl := lw_at lw_m11 207 rfl
theorem in_J20 : ∀ w ∈ wsJ200, w ∈ lw_all := lw_in wsJ200 [1599, 1600, 1601, 1602, 1603, 1608] (by decide +kernel) (by decide +kernel)

def RJ22 : String := "java/lang/IllegalStateException"
def TJ22 : u_T := fun k => match k with
  | 0 => ("java/lang/Throwable", "cause", "Ljava/lang/Throwable;", false)
  | 1 => ("java/lang/Throwable", "stackTrace", "[Ljava/lang/StackTraceElement;", false)
  | 2 => ("java/lang/Throwable", "suppressedExceptions", "Ljava/util/List;", false)
  | 3 => ("java/lang/Throwable", "detailMessage", "Ljava/lang/String;", false)
  | 4 => ("java/lang/Throwable", "backtrace", "Ljava/lang/Object;", false)
  | _ => ("java/lang/Throwable", "depth", "I", false)
def tyJ22 : Nat → FieldType := fun k => match k with
  | 0 => .object "java/lang/Throwable"
  | 1 => .array (.object "java/lang/StackTraceElement")
  | 2 => .object "java/util/List"
  | 3 => .object "java/lang/String"
  | 4 => .object "java/lang/Object"
  | _ => .int
abbrev wsJ220 : List Cond := u_ws RJ22 TJ22 6
theorem nmJ22 : ∀ a, a < 6 → ∀ b, b < 6 → a ≠ b → (TJ22 a).2.1 ≠ (TJ22 b).2.1 := by decide +kernel
theorem tyJ22_ok : ∀ k, k < 6 → parseFieldDescriptor (TJ22 k).2.2.1 = some (tyJ22 k) := by decide +kernel
abbrev cJ22_init : ByteArray := prog_29_method_1_code
def yJ22_init : MethodName := ⟨RJ22, "<init>", "()V"⟩
theorem dJ22_init_0 : decode cJ22_init 0 = .ok (.aload_n 0, 1) := by decide +kernel
theorem dJ22_init_1 : decode cJ22_init 1 = .ok (.invokespecial 1, 3) := by decide +kernel
theorem dJ22_init_4 : decode cJ22_init 4 = .ok (.return_, 1) := by decide +kernel
theorem q167 : (Jvm.Cond.initialized "java/lang/IllegalStateException") ∈ lw_all := lw_g (lw_at lw_m1 43 rfl) rfl
theorem q233 : (Jvm.Cond.selects "java/lang/IllegalStateException" ({ cls := "java/lang/Throwable", name := "fillInStackTrace", desc := "()Ljava/lang/Throwable;" } : Jvm.MethodName) ({ cls := "java/lang/Throwable", name := "fillInStackTrace", desc := "()Ljava/lang/Throwable;" } : Jvm.MethodName)) ∈ lw_all := lw_g (lw_at lw_m1 109 rfl) rfl
theorem q1303 : (Jvm.Cond.selects "java/lang/IllegalStateException" ({ cls := "java/lang/Object", name := "getClass", desc := "()Ljava/lang/Class;" } : Jvm.MethodName) ({ cls := "java/lang/Object", name := "getClass", desc := "()Ljava/lang/Class;" } : Jvm.MethodName)) ∈ lw_all := lw_g (lw_at lw_m5 219 rfl) rfl
theorem q1699 : (Jvm.Cond.instantiable "java/lang/IllegalStateException" (6 : Nat)) ∈ lw_all := lw_g (lw_at lw_m7 135 rfl) rfl
theorem q1700 : (Jvm.Cond.castable "java/lang/IllegalStateException" "java/lang/IllegalStateException") ∈ lw_tbl := lw_at lw_m7 136 rfl
theorem q1701 : (Jvm.Cond.selects "java/lang/IllegalStateException" ({ cls := "java/lang/Throwable", name := "fillInStackTrace", desc := "(I)Ljava/lang/Throwable;" } : Jvm.MethodName) ({ cls := "java/lang/Throwable", name := "fillInStackTrace", desc := "(I)Ljava/lang/Throwable;" } : Jvm.MethodName)) ∈ lw_all := lw_g (lw_at lw_m7 137 rfl) rfl
theorem q1702 : (Jvm.Cond.lays "java/lang/IllegalStateException" "java/lang/Throwable" "cause" "Ljava/lang/Throwable;") ∈ lw_all := lw_g (lw_at lw_m7 138 rfl) rfl
theorem q1703 : (Jvm.Cond.lays "java/lang/IllegalStateException" "java/lang/Throwable" "stackTrace" "[Ljava/lang/StackTraceElement;") ∈ lw_all := lw_g (lw_at lw_m7 139 rfl) rfl
theorem q1704 : (Jvm.Cond.lays "java/lang/IllegalStateException" "java/lang/Throwable" "suppressedExceptions" "Ljava/util/List;") ∈ lw_all := lw_g (lw_at lw_m7 140 rfl) rfl
theorem q1705 : (Jvm.Cond.lays "java/lang/IllegalStateException" "java/lang/Throwable" "detailMessage" "Ljava/lang/String;") ∈ lw_all := lw_g (lw_at lw_m7 141 rfl) rfl
theorem q1706 : (Jvm.Cond.lays "java/lang/IllegalStateException" "java/lang/Throwable" "backtrace" "Ljava/lang/Object;") ∈ lw_all := lw_g (lw_at lw_m7 142 rfl) rfl
theorem q1708 : (Jvm.Cond.instanceMethod ({ cls := "java/lang/IllegalStateException", name := "<init>", desc := "()V" } : Jvm.MethodName)) ∈ lw_all := lw_g (lw_at lw_m7 144 rfl) rfl
theorem q1709 : (Jvm.Cond.code ({ cls := "java/lang/IllegalStateException", name := "<init>", desc := "()V" } : Jvm.MethodName) prog_29_method_1_code (1 : Nat) (Option.none : Option Jvm.ClassFile.FieldType)) ∈ lw_all := lw_g (lw_at lw_m7 145 rfl) rfl
theorem q1710 : (Jvm.Cond.methodLink "java/lang/IllegalStateException" (1 : Nat) ({ cls := "java/lang/RuntimeException", name := "<init>", desc := "()V" } : Jvm.MethodName)) ∈ lw_all := lw_g (lw_at lw_m7 146 rfl) rfl
theorem q1711 : (Jvm.Cond.lays "java/lang/IllegalStateException" "java/lang/Throwable" "depth" "I") ∈ lw_all := lw_g (lw_at lw_m7 147 rfl) rfl
theorem q1712 : (Jvm.Cond.superclass "java/lang/IllegalStateException" "java/lang/RuntimeException") ∈ lw_all := lw_g (lw_at lw_m7 148 rfl) rfl
theorem q2732 : (Jvm.Cond.castable "java/lang/IllegalStateException" "java/lang/Object") ∈ lw_tbl := lw_at lw_m11 208 rfl
theorem in_J22 : ∀ w ∈ wsJ220, w ∈ lw_all := lw_in wsJ220 [1702, 1703, 1704, 1705, 1706, 1711] (by decide +kernel) (by decide +kernel)

def RJ23 : String := "java/lang/Object"
abbrev cJ23_init : ByteArray := object_method_1_code
def yJ23_init : MethodName := ⟨RJ23, "<init>", "()V"⟩
theorem dJ23_init_0 : decode cJ23_init 0 = .ok (.return_, 1) := by decide +kernel
theorem q174 : (Jvm.Cond.instanceMethod ({ cls := "java/lang/Object", name := "<init>", desc := "()V" } : Jvm.MethodName)) ∈ lw_all := lw_g (lw_at lw_m1 50 rfl) rfl
theorem q175 : (Jvm.Cond.code ({ cls := "java/lang/Object", name := "<init>", desc := "()V" } : Jvm.MethodName) object_method_1_code (1 : Nat) (Option.none : Option Jvm.ClassFile.FieldType)) ∈ lw_all := lw_g (lw_at lw_m1 51 rfl) rfl
theorem q309 : (Jvm.Cond.native ({ cls := "java/lang/Object", name := "clone", desc := "()Ljava/lang/Object;" } : Jvm.MethodName)) ∈ lw_all := lw_g (lw_at lw_m1 185 rfl) rfl
theorem q310 : (Jvm.Cond.instanceMethod ({ cls := "java/lang/Object", name := "clone", desc := "()Ljava/lang/Object;" } : Jvm.MethodName)) ∈ lw_all := lw_g (lw_at lw_m1 186 rfl) rfl
theorem q1283 : (Jvm.Cond.instanceMethod ({ cls := "java/lang/Object", name := "getClass", desc := "()Ljava/lang/Class;" } : Jvm.MethodName)) ∈ lw_all := lw_g (lw_at lw_m5 199 rfl) rfl
theorem q1284 : (Jvm.Cond.sameMethod "java/lang/Object" "java/lang/Object" "getClass" "()Ljava/lang/Class;") ∈ lw_all := lw_g (lw_at lw_m5 200 rfl) rfl
theorem q1310 : (Jvm.Cond.native ({ cls := "java/lang/Object", name := "getClass", desc := "()Ljava/lang/Class;" } : Jvm.MethodName)) ∈ lw_all := lw_g (lw_at lw_m5 226 rfl) rfl
theorem q2700 : (Jvm.Cond.initialized "java/lang/Object") ∈ lw_all := lw_g (lw_at lw_m11 176 rfl) rfl
theorem q2736 : (Jvm.Cond.declares ({ cls := "java/lang/Object", name := "getClass", desc := "()Ljava/lang/Class;" } : Jvm.MethodName)) ∈ lw_tbl := lw_at lw_m11 212 rfl

def RJ24 : String := "java/lang/System$2"
abbrev cJ24_getUTF16Char : ByteArray := prog_43_method_45_code
def yJ24_getUTF16Char : MethodName := ⟨RJ24, "getUTF16Char", "([BI)C"⟩
def dkwJ24_getUTF16Char_0 : List UInt8 := [43, 28, 184, 0, 185, 172]
abbrev dktJ24_getUTF16Char_0 : List UInt8 := dkwJ24_getUTF16Char_0 ++ []
theorem dksJ24_getUTF16Char_0 : cJ24_getUTF16Char.data.toList.drop 0 = dktJ24_getUTF16Char_0 := by decide +kernel
theorem dJ24_getUTF16Char_0 : decode cJ24_getUTF16Char 0 = .ok (.aload_n 1, 1) := dk_43 (dk_at dksJ24_getUTF16Char_0 0 rfl rfl)
theorem dJ24_getUTF16Char_1 : decode cJ24_getUTF16Char 1 = .ok (.iload_n 2, 1) := dk_28 (dk_at dksJ24_getUTF16Char_0 1 rfl rfl)
theorem dJ24_getUTF16Char_2 : decode cJ24_getUTF16Char 2 = .ok (.invokestatic 185, 3) := dk_184 0 185 (dk_at dksJ24_getUTF16Char_0 2 rfl rfl)
theorem dJ24_getUTF16Char_5 : decode cJ24_getUTF16Char 5 = .ok (.ireturn, 1) := dk_172 (dk_at dksJ24_getUTF16Char_0 5 rfl rfl)
theorem q1106 : (Jvm.Cond.castable "java/lang/System$2" "jdk/internal/access/JavaLangAccess") ∈ lw_tbl := lw_at lw_m5 22 rfl
theorem q1107 : (Jvm.Cond.selects "java/lang/System$2" ({ cls := "jdk/internal/access/JavaLangAccess", name := "getUTF16Char", desc := "([BI)C" } : Jvm.MethodName) ({ cls := "java/lang/System$2", name := "getUTF16Char", desc := "([BI)C" } : Jvm.MethodName)) ∈ lw_all := lw_g (lw_at lw_m5 23 rfl) rfl
theorem q1108 : (Jvm.Cond.unhidden "java/lang/System$2" "getUTF16Char" "([BI)C") ∈ lw_tbl := lw_at lw_m5 24 rfl
theorem q1109 : (Jvm.Cond.instanceMethod ({ cls := "java/lang/System$2", name := "getUTF16Char", desc := "([BI)C" } : Jvm.MethodName)) ∈ lw_all := lw_g (lw_at lw_m5 25 rfl) rfl
theorem q1110 : (Jvm.Cond.publicMethod ({ cls := "java/lang/System$2", name := "getUTF16Char", desc := "([BI)C" } : Jvm.MethodName)) ∈ lw_tbl := lw_at lw_m5 26 rfl
theorem q1111 : (Jvm.Cond.code ({ cls := "java/lang/System$2", name := "getUTF16Char", desc := "([BI)C" } : Jvm.MethodName) prog_43_method_45_code (3 : Nat) (Option.some Jvm.ClassFile.FieldType.char)) ∈ lw_all := lw_g (lw_at lw_m5 27 rfl) rfl
theorem q1112 : (Jvm.Cond.methodLink "java/lang/System$2" (185 : Nat) ({ cls := "java/lang/StringUTF16", name := "getChar", desc := "([BI)C" } : Jvm.MethodName)) ∈ lw_all := lw_g (lw_at lw_m5 28 rfl) rfl
theorem q1308 : (Jvm.Cond.selects "java/lang/System$2" ({ cls := "java/lang/Object", name := "getClass", desc := "()Ljava/lang/Class;" } : Jvm.MethodName) ({ cls := "java/lang/Object", name := "getClass", desc := "()Ljava/lang/Class;" } : Jvm.MethodName)) ∈ lw_all := lw_g (lw_at lw_m5 224 rfl) rfl
theorem q2719 : (Jvm.Cond.castable "java/lang/System$2" "java/lang/Object") ∈ lw_tbl := lw_at lw_m11 195 rfl

theorem q308 : (Jvm.Cond.sameMethod "[B" "java/lang/Object" "clone" "()Ljava/lang/Object;") ∈ lw_all := lw_g (lw_at lw_m1 184 rfl) rfl
theorem q311 : (Jvm.Cond.selects "[B" ({ cls := "[B", name := "clone", desc := "()Ljava/lang/Object;" } : Jvm.MethodName) ({ cls := "java/lang/Object", name := "clone", desc := "()Ljava/lang/Object;" } : Jvm.MethodName)) ∈ lw_all := lw_g (lw_at lw_m1 187 rfl) rfl
theorem q312 : (Jvm.Cond.castable "[B" "java/lang/Cloneable") ∈ lw_tbl := lw_at lw_m1 188 rfl
theorem q2738 : (Jvm.Cond.castable "[B" "java/lang/Object") ∈ lw_tbl := lw_at lw_m11 214 rfl

theorem q2740 : (Jvm.Cond.castable "[I" "java/lang/Object") ∈ lw_tbl := lw_at lw_m11 216 rfl

theorem q2739 : (Jvm.Cond.castable "[J" "java/lang/Object") ∈ lw_tbl := lw_at lw_m11 215 rfl

theorem q2741 : (Jvm.Cond.castable "[LLotBeliefs$State;" "java/lang/Object") ∈ lw_tbl := lw_at lw_m11 217 rfl

theorem q2734 : (Jvm.Cond.sameMethod "[Ljava/lang/Object;" "java/lang/Object" "getClass" "()Ljava/lang/Class;") ∈ lw_all := lw_g (lw_at lw_m11 210 rfl) rfl
theorem q2735 : (Jvm.Cond.selects "[Ljava/lang/Object;" ({ cls := "java/lang/Object", name := "getClass", desc := "()Ljava/lang/Class;" } : Jvm.MethodName) ({ cls := "java/lang/Object", name := "getClass", desc := "()Ljava/lang/Class;" } : Jvm.MethodName)) ∈ lw_all := lw_g (lw_at lw_m11 211 rfl) rfl
theorem q2737 : (Jvm.Cond.castable "[Ljava/lang/Object;" "java/lang/Object") ∈ lw_tbl := lw_at lw_m11 213 rfl

theorem q2742 : (Jvm.Cond.castable "[Z" "java/lang/Object") ∈ lw_tbl := lw_at lw_m11 218 rfl

theorem q2743 : (Jvm.Cond.castable "[[I" "java/lang/Object") ∈ lw_tbl := lw_at lw_m11 219 rfl

theorem q163 : (Jvm.Cond.initialized "java/lang/Integer$IntegerCache") ∈ lw_all := lw_g (lw_at lw_m1 39 rfl) rfl
theorem q1509 : (Jvm.Cond.laysStatic "java/lang/Integer$IntegerCache" "high" "I") ∈ lw_tbl := lw_at lw_m6 185 rfl
theorem q1511 : (Jvm.Cond.laysStatic "java/lang/Integer$IntegerCache" "cache" "[Ljava/lang/Integer;") ∈ lw_tbl := lw_at lw_m6 187 rfl

theorem q141 : (Jvm.Cond.initialized "java/lang/System") ∈ lw_all := lw_g (lw_at lw_m1 17 rfl) rfl
theorem q318 : (Jvm.Cond.static ({ cls := "java/lang/System", name := "arraycopy", desc := "(Ljava/lang/Object;ILjava/lang/Object;II)V" } : Jvm.MethodName)) ∈ lw_all := lw_g (lw_at lw_m1 194 rfl) rfl
theorem q319 : (Jvm.Cond.native ({ cls := "java/lang/System", name := "arraycopy", desc := "(Ljava/lang/Object;ILjava/lang/Object;II)V" } : Jvm.MethodName)) ∈ lw_all := lw_g (lw_at lw_m1 195 rfl) rfl

theorem q195 : (Jvm.Cond.arrayOver (Jvm.ClassFile.FieldType.object "java/lang/Object")) ∈ lw_tbl := lw_at lw_m1 71 rfl
theorem q272 : (Jvm.Cond.arrayClass Jvm.ClassFile.FieldType.byte) ∈ lw_all := lw_g (lw_at lw_m1 148 rfl) rfl
theorem q562 : (Jvm.Cond.arrayClass Jvm.ClassFile.FieldType.long) ∈ lw_all := lw_g (lw_at lw_m2 198 rfl) rfl
theorem q581 : (Jvm.Cond.arrayClass Jvm.ClassFile.FieldType.int) ∈ lw_all := lw_g (lw_at lw_m2 217 rfl) rfl
theorem q602 : (Jvm.Cond.arrayOver (Jvm.ClassFile.FieldType.object "LotBeliefs$State")) ∈ lw_tbl := lw_at lw_m2 238 rfl
theorem q789 : (Jvm.Cond.arrayClass Jvm.ClassFile.FieldType.boolean) ∈ lw_all := lw_g (lw_at lw_m3 185 rfl) rfl
theorem q1974 : (Jvm.Cond.arrayOver (Jvm.ClassFile.FieldType.array Jvm.ClassFile.FieldType.int)) ∈ lw_tbl := lw_at lw_m8 170 rfl
theorem q2744 : (Jvm.Cond.arrayClass Jvm.ClassFile.FieldType.char) ∈ lw_all := lw_g (lw_at lw_m11 220 rfl) rfl
theorem q2745 : (Jvm.Cond.arrayClass Jvm.ClassFile.FieldType.short) ∈ lw_all := lw_g (lw_at lw_m11 221 rfl) rfl

