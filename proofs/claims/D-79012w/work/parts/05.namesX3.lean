/-! SecretVaultModel -/
set_option maxRecDepth 100000
def RX3 : String := "SecretVaultModel"
def TX3 : u_T := fun k => match k with
  | 0 => ("SecretVaultModel", "thrown", "I", false)
  | 1 => ("SecretVaultModel", "g", "[I", true)
  | 2 => ("SecretVaultModel", "saved", "[I", true)
  | 3 => ("SecretVaultModel", "hasSaved", "Z", false)
  | 4 => ("SecretVaultModel", "coefficients", "[I", true)
  | 5 => ("SecretVaultModel", "nodes", "[I", true)
  | 6 => ("SecretVaultModel", "nodeMany", "I", false)
  | 7 => ("SecretVaultModel", "isDeep", "Z", false)
  | 8 => ("SecretVaultModel", "codes", "[I", true)
  | 9 => ("SecretVaultModel", "details", "[I", true)
  | 10 => ("SecretVaultModel", "levelMany", "I", false)
  | 11 => ("SecretVaultModel", "given", "[I", true)
  | 12 => ("SecretVaultModel", "paper", "[C", true)
  | 13 => ("SecretVaultModel", "papered", "I", false)
  | 14 => ("SecretVaultModel", "tape", "[C", true)
  | 15 => ("SecretVaultModel", "taped", "I", false)
  | 16 => ("SecretVaultModel", "wrongAt", "I", false)
  | 17 => ("SecretVaultModel", "at", "I", false)
  | 18 => ("SecretVaultModel", "value", "I", false)
  | 19 => ("SecretVaultModel", "readPlace", "I", false)
  | 20 => ("SecretVaultModel", "readValue", "I", false)
  | _ => ("SecretVaultModel", "readEpoch", "I", false)
def tyX3 : Nat → FieldType := fun k => match k with
  | 0 => .int
  | 1 => .array .int
  | 2 => .array .int
  | 3 => .boolean
  | 4 => .array .int
  | 5 => .array .int
  | 6 => .int
  | 7 => .boolean
  | 8 => .array .int
  | 9 => .array .int
  | 10 => .int
  | 11 => .array .int
  | 12 => .array .char
  | 13 => .int
  | 14 => .array .char
  | 15 => .int
  | 16 => .int
  | 17 => .int
  | 18 => .int
  | 19 => .int
  | 20 => .int
  | _ => .int
abbrev wsX30 : List Cond := u_ws RX3 TX3 22
set_option maxRecDepth 100000 in
theorem nmX3 : ∀ a, a < 22 → ∀ b, b < 22 → a ≠ b → (TX3 a).2.1 ≠ (TX3 b).2.1 := by decide +kernel
set_option maxRecDepth 100000 in
theorem tyX3_ok : ∀ k, k < 22 → parseFieldDescriptor (TX3 k).2.2.1 = some (tyX3 k) := by decide +kernel
abbrev cX3_init : ByteArray := prog_27_method_1_code
def yX3_init : MethodName := ⟨RX3, "<init>", "()V"⟩
def dkwX3_init_5 : List UInt8 := [132, 1, 1, 167, 255, 228, 177]
abbrev dktX3_init_5 : List UInt8 := dkwX3_init_5 ++ []
def dkwX3_init_4 : List UInt8 := [162, 0, 28, 42, 180, 0, 7, 4, 27, 96, 4, 79, 42, 180, 0, 7, 16, 9, 27, 96, 4, 79]
abbrev dktX3_init_4 : List UInt8 := dkwX3_init_4 ++ dktX3_init_5
def dkwX3_init_3 : List UInt8 := [16, 40, 188, 5, 181, 0, 35, 42, 2, 181, 0, 38, 42, 180, 0, 7, 3, 4, 79, 3, 60, 27, 16, 8]
abbrev dktX3_init_3 : List UInt8 := dkwX3_init_3 ++ dktX3_init_4
def dkwX3_init_2 : List UInt8 := [16, 30, 188, 10, 181, 0, 25, 42, 6, 188, 10, 181, 0, 28, 42, 16, 100, 188, 5, 181, 0, 31, 42]
abbrev dktX3_init_2 : List UInt8 := dkwX3_init_2 ++ dktX3_init_3
def dkwX3_init_1 : List UInt8 := [16, 8, 188, 10, 181, 0, 16, 42, 16, 24, 188, 10, 181, 0, 19, 42, 16, 30, 188, 10, 181, 0, 22, 42]
abbrev dktX3_init_1 : List UInt8 := dkwX3_init_1 ++ dktX3_init_2
def dkwX3_init_0 : List UInt8 := [42, 183, 0, 1, 42, 17, 2, 22, 188, 10, 181, 0, 7, 42, 17, 2, 22, 188, 10, 181, 0, 13, 42]
abbrev dktX3_init_0 : List UInt8 := dkwX3_init_0 ++ dktX3_init_1
theorem dksX3_init_0 : cX3_init.data.toList.drop 0 = dktX3_init_0 := by decide +kernel
theorem dksX3_init_1 : cX3_init.data.toList.drop 23 = dktX3_init_1 := dk_seg dksX3_init_0 23 rfl rfl
theorem dksX3_init_2 : cX3_init.data.toList.drop 47 = dktX3_init_2 := dk_seg dksX3_init_1 24 rfl rfl
theorem dksX3_init_3 : cX3_init.data.toList.drop 70 = dktX3_init_3 := dk_seg dksX3_init_2 23 rfl rfl
theorem dksX3_init_4 : cX3_init.data.toList.drop 94 = dktX3_init_4 := dk_seg dksX3_init_3 24 rfl rfl
theorem dksX3_init_5 : cX3_init.data.toList.drop 116 = dktX3_init_5 := dk_seg dksX3_init_4 22 rfl rfl
theorem dX3_init_0 : decode cX3_init 0 = .ok (.aload_n 0, 1) := dk_42 (dk_at dksX3_init_0 0 rfl rfl)
theorem dX3_init_1 : decode cX3_init 1 = .ok (.invokespecial 1, 3) := dk_183 0 1 (dk_at dksX3_init_0 1 rfl rfl)
theorem dX3_init_4 : decode cX3_init 4 = .ok (.aload_n 0, 1) := dk_42 (dk_at dksX3_init_0 4 rfl rfl)
theorem dX3_init_5 : decode cX3_init 5 = .ok (.sipush 534, 3) := dk_17 2 22 (dk_at dksX3_init_0 5 rfl rfl)
theorem dX3_init_8 : decode cX3_init 8 = .ok (.newarray .int, 2) := dk_188_10 (dk_at dksX3_init_0 8 rfl rfl)
theorem dX3_init_10 : decode cX3_init 10 = .ok (.putfield 7, 3) := dk_181 0 7 (dk_at dksX3_init_0 10 rfl rfl)
theorem dX3_init_13 : decode cX3_init 13 = .ok (.aload_n 0, 1) := dk_42 (dk_at dksX3_init_0 13 rfl rfl)
theorem dX3_init_14 : decode cX3_init 14 = .ok (.sipush 534, 3) := dk_17 2 22 (dk_at dksX3_init_0 14 rfl rfl)
theorem dX3_init_17 : decode cX3_init 17 = .ok (.newarray .int, 2) := dk_188_10 (dk_at dksX3_init_0 17 rfl rfl)
theorem dX3_init_19 : decode cX3_init 19 = .ok (.putfield 13, 3) := dk_181 0 13 (dk_at dksX3_init_0 19 rfl rfl)
theorem dX3_init_22 : decode cX3_init 22 = .ok (.aload_n 0, 1) := dk_42 (dk_at dksX3_init_0 22 rfl rfl)
theorem dX3_init_23 : decode cX3_init 23 = .ok (.bipush 8, 2) := dk_16 8 (dk_at dksX3_init_1 0 rfl rfl)
theorem dX3_init_25 : decode cX3_init 25 = .ok (.newarray .int, 2) := dk_188_10 (dk_at dksX3_init_1 2 rfl rfl)
theorem dX3_init_27 : decode cX3_init 27 = .ok (.putfield 16, 3) := dk_181 0 16 (dk_at dksX3_init_1 4 rfl rfl)
theorem dX3_init_30 : decode cX3_init 30 = .ok (.aload_n 0, 1) := dk_42 (dk_at dksX3_init_1 7 rfl rfl)
theorem dX3_init_31 : decode cX3_init 31 = .ok (.bipush 24, 2) := dk_16 24 (dk_at dksX3_init_1 8 rfl rfl)
theorem dX3_init_33 : decode cX3_init 33 = .ok (.newarray .int, 2) := dk_188_10 (dk_at dksX3_init_1 10 rfl rfl)
theorem dX3_init_35 : decode cX3_init 35 = .ok (.putfield 19, 3) := dk_181 0 19 (dk_at dksX3_init_1 12 rfl rfl)
theorem dX3_init_38 : decode cX3_init 38 = .ok (.aload_n 0, 1) := dk_42 (dk_at dksX3_init_1 15 rfl rfl)
theorem dX3_init_39 : decode cX3_init 39 = .ok (.bipush 30, 2) := dk_16 30 (dk_at dksX3_init_1 16 rfl rfl)
theorem dX3_init_41 : decode cX3_init 41 = .ok (.newarray .int, 2) := dk_188_10 (dk_at dksX3_init_1 18 rfl rfl)
theorem dX3_init_43 : decode cX3_init 43 = .ok (.putfield 22, 3) := dk_181 0 22 (dk_at dksX3_init_1 20 rfl rfl)
theorem dX3_init_46 : decode cX3_init 46 = .ok (.aload_n 0, 1) := dk_42 (dk_at dksX3_init_1 23 rfl rfl)
theorem dX3_init_47 : decode cX3_init 47 = .ok (.bipush 30, 2) := dk_16 30 (dk_at dksX3_init_2 0 rfl rfl)
theorem dX3_init_49 : decode cX3_init 49 = .ok (.newarray .int, 2) := dk_188_10 (dk_at dksX3_init_2 2 rfl rfl)
theorem dX3_init_51 : decode cX3_init 51 = .ok (.putfield 25, 3) := dk_181 0 25 (dk_at dksX3_init_2 4 rfl rfl)
theorem dX3_init_54 : decode cX3_init 54 = .ok (.aload_n 0, 1) := dk_42 (dk_at dksX3_init_2 7 rfl rfl)
theorem dX3_init_55 : decode cX3_init 55 = .ok (.iconst 3, 1) := dk_6 (dk_at dksX3_init_2 8 rfl rfl)
theorem dX3_init_56 : decode cX3_init 56 = .ok (.newarray .int, 2) := dk_188_10 (dk_at dksX3_init_2 9 rfl rfl)
theorem dX3_init_58 : decode cX3_init 58 = .ok (.putfield 28, 3) := dk_181 0 28 (dk_at dksX3_init_2 11 rfl rfl)
theorem dX3_init_61 : decode cX3_init 61 = .ok (.aload_n 0, 1) := dk_42 (dk_at dksX3_init_2 14 rfl rfl)
theorem dX3_init_62 : decode cX3_init 62 = .ok (.bipush 100, 2) := dk_16 100 (dk_at dksX3_init_2 15 rfl rfl)
theorem dX3_init_64 : decode cX3_init 64 = .ok (.newarray .char, 2) := dk_188_5 (dk_at dksX3_init_2 17 rfl rfl)
theorem dX3_init_66 : decode cX3_init 66 = .ok (.putfield 31, 3) := dk_181 0 31 (dk_at dksX3_init_2 19 rfl rfl)
theorem dX3_init_69 : decode cX3_init 69 = .ok (.aload_n 0, 1) := dk_42 (dk_at dksX3_init_2 22 rfl rfl)
theorem dX3_init_70 : decode cX3_init 70 = .ok (.bipush 40, 2) := dk_16 40 (dk_at dksX3_init_3 0 rfl rfl)
theorem dX3_init_72 : decode cX3_init 72 = .ok (.newarray .char, 2) := dk_188_5 (dk_at dksX3_init_3 2 rfl rfl)
theorem dX3_init_74 : decode cX3_init 74 = .ok (.putfield 35, 3) := dk_181 0 35 (dk_at dksX3_init_3 4 rfl rfl)
theorem dX3_init_77 : decode cX3_init 77 = .ok (.aload_n 0, 1) := dk_42 (dk_at dksX3_init_3 7 rfl rfl)
theorem dX3_init_78 : decode cX3_init 78 = .ok (.iconst (-1), 1) := dk_2 (dk_at dksX3_init_3 8 rfl rfl)
theorem dX3_init_79 : decode cX3_init 79 = .ok (.putfield 38, 3) := dk_181 0 38 (dk_at dksX3_init_3 9 rfl rfl)
theorem dX3_init_82 : decode cX3_init 82 = .ok (.aload_n 0, 1) := dk_42 (dk_at dksX3_init_3 12 rfl rfl)
theorem dX3_init_83 : decode cX3_init 83 = .ok (.getfield 7, 3) := dk_180 0 7 (dk_at dksX3_init_3 13 rfl rfl)
theorem dX3_init_86 : decode cX3_init 86 = .ok (.iconst 0, 1) := dk_3 (dk_at dksX3_init_3 16 rfl rfl)
theorem dX3_init_87 : decode cX3_init 87 = .ok (.iconst 1, 1) := dk_4 (dk_at dksX3_init_3 17 rfl rfl)
theorem dX3_init_88 : decode cX3_init 88 = .ok (.iastore, 1) := dk_79 (dk_at dksX3_init_3 18 rfl rfl)
theorem dX3_init_89 : decode cX3_init 89 = .ok (.iconst 0, 1) := dk_3 (dk_at dksX3_init_3 19 rfl rfl)
theorem dX3_init_90 : decode cX3_init 90 = .ok (.istore_n 1, 1) := dk_60 (dk_at dksX3_init_3 20 rfl rfl)
theorem dX3_init_91 : decode cX3_init 91 = .ok (.iload_n 1, 1) := dk_27 (dk_at dksX3_init_3 21 rfl rfl)
theorem dX3_init_92 : decode cX3_init 92 = .ok (.bipush 8, 2) := dk_16 8 (dk_at dksX3_init_3 22 rfl rfl)
theorem dX3_init_94 : decode cX3_init 94 = .ok (.if_icmp .ge 28, 3) := dk_162 0 28 (dk_at dksX3_init_4 0 rfl rfl)
theorem dX3_init_97 : decode cX3_init 97 = .ok (.aload_n 0, 1) := dk_42 (dk_at dksX3_init_4 3 rfl rfl)
theorem dX3_init_98 : decode cX3_init 98 = .ok (.getfield 7, 3) := dk_180 0 7 (dk_at dksX3_init_4 4 rfl rfl)
theorem dX3_init_101 : decode cX3_init 101 = .ok (.iconst 1, 1) := dk_4 (dk_at dksX3_init_4 7 rfl rfl)
theorem dX3_init_102 : decode cX3_init 102 = .ok (.iload_n 1, 1) := dk_27 (dk_at dksX3_init_4 8 rfl rfl)
theorem dX3_init_103 : decode cX3_init 103 = .ok (.iadd, 1) := dk_96 (dk_at dksX3_init_4 9 rfl rfl)
theorem dX3_init_104 : decode cX3_init 104 = .ok (.iconst 1, 1) := dk_4 (dk_at dksX3_init_4 10 rfl rfl)
theorem dX3_init_105 : decode cX3_init 105 = .ok (.iastore, 1) := dk_79 (dk_at dksX3_init_4 11 rfl rfl)
theorem dX3_init_106 : decode cX3_init 106 = .ok (.aload_n 0, 1) := dk_42 (dk_at dksX3_init_4 12 rfl rfl)
theorem dX3_init_107 : decode cX3_init 107 = .ok (.getfield 7, 3) := dk_180 0 7 (dk_at dksX3_init_4 13 rfl rfl)
theorem dX3_init_110 : decode cX3_init 110 = .ok (.bipush 9, 2) := dk_16 9 (dk_at dksX3_init_4 16 rfl rfl)
theorem dX3_init_112 : decode cX3_init 112 = .ok (.iload_n 1, 1) := dk_27 (dk_at dksX3_init_4 18 rfl rfl)
theorem dX3_init_113 : decode cX3_init 113 = .ok (.iadd, 1) := dk_96 (dk_at dksX3_init_4 19 rfl rfl)
theorem dX3_init_114 : decode cX3_init 114 = .ok (.iconst 1, 1) := dk_4 (dk_at dksX3_init_4 20 rfl rfl)
theorem dX3_init_115 : decode cX3_init 115 = .ok (.iastore, 1) := dk_79 (dk_at dksX3_init_4 21 rfl rfl)
theorem dX3_init_116 : decode cX3_init 116 = .ok (.iinc 1 1, 3) := dk_132 1 1 (dk_at dksX3_init_5 0 rfl rfl)
theorem dX3_init_119 : decode cX3_init 119 = .ok (.goto (-28), 3) := dk_167 255 228 (dk_at dksX3_init_5 3 rfl rfl)
theorem dX3_init_122 : decode cX3_init 122 = .ok (.return_, 1) := dk_177 (dk_at dksX3_init_5 6 rfl rfl)
abbrev cX3_thrown : ByteArray := prog_27_method_2_code
def yX3_thrown : MethodName := ⟨RX3, "thrown", "()I"⟩
theorem dX3_thrown_0 : decode cX3_thrown 0 = .ok (.aload_n 0, 1) := by decide +kernel
theorem dX3_thrown_1 : decode cX3_thrown 1 = .ok (.getfield 42, 3) := by decide +kernel
theorem dX3_thrown_4 : decode cX3_thrown 4 = .ok (.ireturn, 1) := by decide +kernel
abbrev cX3_seed : ByteArray := prog_27_method_23_code
def yX3_seed : MethodName := ⟨RX3, "seed", "(I)I"⟩
def dkwX3_seed_0 : List UInt8 := [42, 180, 0, 7, 3, 46, 61, 42, 180, 0, 7, 3, 27, 79, 42, 28, 182, 0, 69, 172]
abbrev dktX3_seed_0 : List UInt8 := dkwX3_seed_0 ++ []
theorem dksX3_seed_0 : cX3_seed.data.toList.drop 0 = dktX3_seed_0 := by decide +kernel
theorem dX3_seed_0 : decode cX3_seed 0 = .ok (.aload_n 0, 1) := dk_42 (dk_at dksX3_seed_0 0 rfl rfl)
theorem dX3_seed_1 : decode cX3_seed 1 = .ok (.getfield 7, 3) := dk_180 0 7 (dk_at dksX3_seed_0 1 rfl rfl)
theorem dX3_seed_4 : decode cX3_seed 4 = .ok (.iconst 0, 1) := dk_3 (dk_at dksX3_seed_0 4 rfl rfl)
theorem dX3_seed_5 : decode cX3_seed 5 = .ok (.iaload, 1) := dk_46 (dk_at dksX3_seed_0 5 rfl rfl)
theorem dX3_seed_6 : decode cX3_seed 6 = .ok (.istore_n 2, 1) := dk_61 (dk_at dksX3_seed_0 6 rfl rfl)
theorem dX3_seed_7 : decode cX3_seed 7 = .ok (.aload_n 0, 1) := dk_42 (dk_at dksX3_seed_0 7 rfl rfl)
theorem dX3_seed_8 : decode cX3_seed 8 = .ok (.getfield 7, 3) := dk_180 0 7 (dk_at dksX3_seed_0 8 rfl rfl)
theorem dX3_seed_11 : decode cX3_seed 11 = .ok (.iconst 0, 1) := dk_3 (dk_at dksX3_seed_0 11 rfl rfl)
theorem dX3_seed_12 : decode cX3_seed 12 = .ok (.iload_n 1, 1) := dk_27 (dk_at dksX3_seed_0 12 rfl rfl)
theorem dX3_seed_13 : decode cX3_seed 13 = .ok (.iastore, 1) := dk_79 (dk_at dksX3_seed_0 13 rfl rfl)
theorem dX3_seed_14 : decode cX3_seed 14 = .ok (.aload_n 0, 1) := dk_42 (dk_at dksX3_seed_0 14 rfl rfl)
theorem dX3_seed_15 : decode cX3_seed 15 = .ok (.iload_n 2, 1) := dk_28 (dk_at dksX3_seed_0 15 rfl rfl)
theorem dX3_seed_16 : decode cX3_seed 16 = .ok (.invokevirtual 69, 3) := dk_182 0 69 (dk_at dksX3_seed_0 16 rfl rfl)
theorem dX3_seed_19 : decode cX3_seed 19 = .ok (.ireturn, 1) := dk_172 (dk_at dksX3_seed_0 19 rfl rfl)
abbrev cX3_done : ByteArray := prog_27_method_5_code
def yX3_done : MethodName := ⟨RX3, "done", "(I)I"⟩
def dkwX3_done_0 : List UInt8 := [42, 3, 181, 0, 42, 27, 172]
abbrev dktX3_done_0 : List UInt8 := dkwX3_done_0 ++ []
theorem dksX3_done_0 : cX3_done.data.toList.drop 0 = dktX3_done_0 := by decide +kernel
theorem dX3_done_0 : decode cX3_done 0 = .ok (.aload_n 0, 1) := dk_42 (dk_at dksX3_done_0 0 rfl rfl)
theorem dX3_done_1 : decode cX3_done 1 = .ok (.iconst 0, 1) := dk_3 (dk_at dksX3_done_0 1 rfl rfl)
theorem dX3_done_2 : decode cX3_done 2 = .ok (.putfield 42, 3) := dk_181 0 42 (dk_at dksX3_done_0 2 rfl rfl)
theorem dX3_done_5 : decode cX3_done 5 = .ok (.iload_n 1, 1) := dk_27 (dk_at dksX3_done_0 5 rfl rfl)
theorem dX3_done_6 : decode cX3_done 6 = .ok (.ireturn, 1) := dk_172 (dk_at dksX3_done_0 6 rfl rfl)
abbrev cX3_draw : ByteArray := prog_27_method_24_code
def yX3_draw : MethodName := ⟨RX3, "draw", "()I"⟩
def dkwX3_draw_0 : List UInt8 := [42, 42, 182, 0, 72, 182, 0, 69, 172]
abbrev dktX3_draw_0 : List UInt8 := dkwX3_draw_0 ++ []
theorem dksX3_draw_0 : cX3_draw.data.toList.drop 0 = dktX3_draw_0 := by decide +kernel
theorem dX3_draw_0 : decode cX3_draw 0 = .ok (.aload_n 0, 1) := dk_42 (dk_at dksX3_draw_0 0 rfl rfl)
theorem dX3_draw_1 : decode cX3_draw 1 = .ok (.aload_n 0, 1) := dk_42 (dk_at dksX3_draw_0 1 rfl rfl)
theorem dX3_draw_2 : decode cX3_draw 2 = .ok (.invokevirtual 72, 3) := dk_182 0 72 (dk_at dksX3_draw_0 2 rfl rfl)
theorem dX3_draw_5 : decode cX3_draw 5 = .ok (.invokevirtual 69, 3) := dk_182 0 69 (dk_at dksX3_draw_0 5 rfl rfl)
theorem dX3_draw_8 : decode cX3_draw 8 = .ok (.ireturn, 1) := dk_172 (dk_at dksX3_draw_0 8 rfl rfl)
abbrev cX3_drawn : ByteArray := prog_27_method_22_code
def yX3_drawn : MethodName := ⟨RX3, "drawn", "()I"⟩
def dkwX3_drawn_1 : List UInt8 := [46, 16, 16, 124, 17, 3, 251, 112, 172]
abbrev dktX3_drawn_1 : List UInt8 := dkwX3_drawn_1 ++ []
def dkwX3_drawn_0 : List UInt8 := [42, 180, 0, 7, 3, 42, 180, 0, 7, 3, 46, 18, 68, 104, 17, 48, 57, 96, 79, 42, 180, 0, 7, 3]
abbrev dktX3_drawn_0 : List UInt8 := dkwX3_drawn_0 ++ dktX3_drawn_1
theorem dksX3_drawn_0 : cX3_drawn.data.toList.drop 0 = dktX3_drawn_0 := by decide +kernel
theorem dksX3_drawn_1 : cX3_drawn.data.toList.drop 24 = dktX3_drawn_1 := dk_seg dksX3_drawn_0 24 rfl rfl
theorem dX3_drawn_0 : decode cX3_drawn 0 = .ok (.aload_n 0, 1) := dk_42 (dk_at dksX3_drawn_0 0 rfl rfl)
theorem dX3_drawn_1 : decode cX3_drawn 1 = .ok (.getfield 7, 3) := dk_180 0 7 (dk_at dksX3_drawn_0 1 rfl rfl)
theorem dX3_drawn_4 : decode cX3_drawn 4 = .ok (.iconst 0, 1) := dk_3 (dk_at dksX3_drawn_0 4 rfl rfl)
theorem dX3_drawn_5 : decode cX3_drawn 5 = .ok (.aload_n 0, 1) := dk_42 (dk_at dksX3_drawn_0 5 rfl rfl)
theorem dX3_drawn_6 : decode cX3_drawn 6 = .ok (.getfield 7, 3) := dk_180 0 7 (dk_at dksX3_drawn_0 6 rfl rfl)
theorem dX3_drawn_9 : decode cX3_drawn 9 = .ok (.iconst 0, 1) := dk_3 (dk_at dksX3_drawn_0 9 rfl rfl)
theorem dX3_drawn_10 : decode cX3_drawn 10 = .ok (.iaload, 1) := dk_46 (dk_at dksX3_drawn_0 10 rfl rfl)
theorem dX3_drawn_11 : decode cX3_drawn 11 = .ok (.ldc 68, 2) := dk_18 68 (dk_at dksX3_drawn_0 11 rfl rfl)
theorem dX3_drawn_13 : decode cX3_drawn 13 = .ok (.imul, 1) := dk_104 (dk_at dksX3_drawn_0 13 rfl rfl)
theorem dX3_drawn_14 : decode cX3_drawn 14 = .ok (.sipush 12345, 3) := dk_17 48 57 (dk_at dksX3_drawn_0 14 rfl rfl)
theorem dX3_drawn_17 : decode cX3_drawn 17 = .ok (.iadd, 1) := dk_96 (dk_at dksX3_drawn_0 17 rfl rfl)
theorem dX3_drawn_18 : decode cX3_drawn 18 = .ok (.iastore, 1) := dk_79 (dk_at dksX3_drawn_0 18 rfl rfl)
theorem dX3_drawn_19 : decode cX3_drawn 19 = .ok (.aload_n 0, 1) := dk_42 (dk_at dksX3_drawn_0 19 rfl rfl)
theorem dX3_drawn_20 : decode cX3_drawn 20 = .ok (.getfield 7, 3) := dk_180 0 7 (dk_at dksX3_drawn_0 20 rfl rfl)
theorem dX3_drawn_23 : decode cX3_drawn 23 = .ok (.iconst 0, 1) := dk_3 (dk_at dksX3_drawn_0 23 rfl rfl)
theorem dX3_drawn_24 : decode cX3_drawn 24 = .ok (.iaload, 1) := dk_46 (dk_at dksX3_drawn_1 0 rfl rfl)
theorem dX3_drawn_25 : decode cX3_drawn 25 = .ok (.bipush 16, 2) := dk_16 16 (dk_at dksX3_drawn_1 1 rfl rfl)
theorem dX3_drawn_27 : decode cX3_drawn 27 = .ok (.iushr, 1) := dk_124 (dk_at dksX3_drawn_1 3 rfl rfl)
theorem dX3_drawn_28 : decode cX3_drawn 28 = .ok (.sipush 1019, 3) := dk_17 3 251 (dk_at dksX3_drawn_1 4 rfl rfl)
theorem dX3_drawn_31 : decode cX3_drawn 31 = .ok (.irem, 1) := dk_112 (dk_at dksX3_drawn_1 7 rfl rfl)
theorem dX3_drawn_32 : decode cX3_drawn 32 = .ok (.ireturn, 1) := dk_172 (dk_at dksX3_drawn_1 8 rfl rfl)
abbrev cX3_setWeight : ByteArray := prog_27_method_25_code
def yX3_setWeight : MethodName := ⟨RX3, "setWeight", "(II)I"⟩
def dkwX3_setWeight_2 : List UInt8 := [182, 0, 69, 172]
abbrev dktX3_setWeight_2 : List UInt8 := dkwX3_setWeight_2 ++ []
def dkwX3_setWeight_1 : List UInt8 := [182, 0, 80, 172, 42, 180, 0, 7, 4, 27, 96, 46, 62, 42, 180, 0, 7, 4, 27, 96, 28, 79, 42, 29]
abbrev dktX3_setWeight_1 : List UInt8 := dkwX3_setWeight_1 ++ dktX3_setWeight_2
def dkwX3_setWeight_0 : List UInt8 := [27, 184, 0, 76, 154, 0, 9, 42, 4, 182, 0, 80, 172, 28, 3, 6, 184, 0, 45, 154, 0, 9, 42, 5]
abbrev dktX3_setWeight_0 : List UInt8 := dkwX3_setWeight_0 ++ dktX3_setWeight_1
theorem dksX3_setWeight_0 : cX3_setWeight.data.toList.drop 0 = dktX3_setWeight_0 := by decide +kernel
theorem dksX3_setWeight_1 : cX3_setWeight.data.toList.drop 24 = dktX3_setWeight_1 := dk_seg dksX3_setWeight_0 24 rfl rfl
theorem dksX3_setWeight_2 : cX3_setWeight.data.toList.drop 48 = dktX3_setWeight_2 := dk_seg dksX3_setWeight_1 24 rfl rfl
theorem dX3_setWeight_0 : decode cX3_setWeight 0 = .ok (.iload_n 1, 1) := dk_27 (dk_at dksX3_setWeight_0 0 rfl rfl)
theorem dX3_setWeight_1 : decode cX3_setWeight 1 = .ok (.invokestatic 76, 3) := dk_184 0 76 (dk_at dksX3_setWeight_0 1 rfl rfl)
theorem dX3_setWeight_4 : decode cX3_setWeight 4 = .ok (.ifCond .ne 9, 3) := dk_154 0 9 (dk_at dksX3_setWeight_0 4 rfl rfl)
theorem dX3_setWeight_7 : decode cX3_setWeight 7 = .ok (.aload_n 0, 1) := dk_42 (dk_at dksX3_setWeight_0 7 rfl rfl)
theorem dX3_setWeight_8 : decode cX3_setWeight 8 = .ok (.iconst 1, 1) := dk_4 (dk_at dksX3_setWeight_0 8 rfl rfl)
theorem dX3_setWeight_9 : decode cX3_setWeight 9 = .ok (.invokevirtual 80, 3) := dk_182 0 80 (dk_at dksX3_setWeight_0 9 rfl rfl)
theorem dX3_setWeight_12 : decode cX3_setWeight 12 = .ok (.ireturn, 1) := dk_172 (dk_at dksX3_setWeight_0 12 rfl rfl)
theorem dX3_setWeight_13 : decode cX3_setWeight 13 = .ok (.iload_n 2, 1) := dk_28 (dk_at dksX3_setWeight_0 13 rfl rfl)
theorem dX3_setWeight_14 : decode cX3_setWeight 14 = .ok (.iconst 0, 1) := dk_3 (dk_at dksX3_setWeight_0 14 rfl rfl)
theorem dX3_setWeight_15 : decode cX3_setWeight 15 = .ok (.iconst 3, 1) := dk_6 (dk_at dksX3_setWeight_0 15 rfl rfl)
theorem dX3_setWeight_16 : decode cX3_setWeight 16 = .ok (.invokestatic 45, 3) := dk_184 0 45 (dk_at dksX3_setWeight_0 16 rfl rfl)
theorem dX3_setWeight_19 : decode cX3_setWeight 19 = .ok (.ifCond .ne 9, 3) := dk_154 0 9 (dk_at dksX3_setWeight_0 19 rfl rfl)
theorem dX3_setWeight_22 : decode cX3_setWeight 22 = .ok (.aload_n 0, 1) := dk_42 (dk_at dksX3_setWeight_0 22 rfl rfl)
theorem dX3_setWeight_23 : decode cX3_setWeight 23 = .ok (.iconst 2, 1) := dk_5 (dk_at dksX3_setWeight_0 23 rfl rfl)
theorem dX3_setWeight_24 : decode cX3_setWeight 24 = .ok (.invokevirtual 80, 3) := dk_182 0 80 (dk_at dksX3_setWeight_1 0 rfl rfl)
theorem dX3_setWeight_27 : decode cX3_setWeight 27 = .ok (.ireturn, 1) := dk_172 (dk_at dksX3_setWeight_1 3 rfl rfl)
theorem dX3_setWeight_28 : decode cX3_setWeight 28 = .ok (.aload_n 0, 1) := dk_42 (dk_at dksX3_setWeight_1 4 rfl rfl)
theorem dX3_setWeight_29 : decode cX3_setWeight 29 = .ok (.getfield 7, 3) := dk_180 0 7 (dk_at dksX3_setWeight_1 5 rfl rfl)
theorem dX3_setWeight_32 : decode cX3_setWeight 32 = .ok (.iconst 1, 1) := dk_4 (dk_at dksX3_setWeight_1 8 rfl rfl)
theorem dX3_setWeight_33 : decode cX3_setWeight 33 = .ok (.iload_n 1, 1) := dk_27 (dk_at dksX3_setWeight_1 9 rfl rfl)
theorem dX3_setWeight_34 : decode cX3_setWeight 34 = .ok (.iadd, 1) := dk_96 (dk_at dksX3_setWeight_1 10 rfl rfl)
theorem dX3_setWeight_35 : decode cX3_setWeight 35 = .ok (.iaload, 1) := dk_46 (dk_at dksX3_setWeight_1 11 rfl rfl)
theorem dX3_setWeight_36 : decode cX3_setWeight 36 = .ok (.istore_n 3, 1) := dk_62 (dk_at dksX3_setWeight_1 12 rfl rfl)
theorem dX3_setWeight_37 : decode cX3_setWeight 37 = .ok (.aload_n 0, 1) := dk_42 (dk_at dksX3_setWeight_1 13 rfl rfl)
theorem dX3_setWeight_38 : decode cX3_setWeight 38 = .ok (.getfield 7, 3) := dk_180 0 7 (dk_at dksX3_setWeight_1 14 rfl rfl)
theorem dX3_setWeight_41 : decode cX3_setWeight 41 = .ok (.iconst 1, 1) := dk_4 (dk_at dksX3_setWeight_1 17 rfl rfl)
theorem dX3_setWeight_42 : decode cX3_setWeight 42 = .ok (.iload_n 1, 1) := dk_27 (dk_at dksX3_setWeight_1 18 rfl rfl)
theorem dX3_setWeight_43 : decode cX3_setWeight 43 = .ok (.iadd, 1) := dk_96 (dk_at dksX3_setWeight_1 19 rfl rfl)
theorem dX3_setWeight_44 : decode cX3_setWeight 44 = .ok (.iload_n 2, 1) := dk_28 (dk_at dksX3_setWeight_1 20 rfl rfl)
theorem dX3_setWeight_45 : decode cX3_setWeight 45 = .ok (.iastore, 1) := dk_79 (dk_at dksX3_setWeight_1 21 rfl rfl)
theorem dX3_setWeight_46 : decode cX3_setWeight 46 = .ok (.aload_n 0, 1) := dk_42 (dk_at dksX3_setWeight_1 22 rfl rfl)
theorem dX3_setWeight_47 : decode cX3_setWeight 47 = .ok (.iload_n 3, 1) := dk_29 (dk_at dksX3_setWeight_1 23 rfl rfl)
theorem dX3_setWeight_48 : decode cX3_setWeight 48 = .ok (.invokevirtual 69, 3) := dk_182 0 69 (dk_at dksX3_setWeight_2 0 rfl rfl)
theorem dX3_setWeight_51 : decode cX3_setWeight 51 = .ok (.ireturn, 1) := dk_172 (dk_at dksX3_setWeight_2 3 rfl rfl)
abbrev cX3_isMember : ByteArray := prog_27_method_6_code
def yX3_isMember : MethodName := ⟨RX3, "isMember", "(I)Z"⟩
def dkwX3_isMember_0 : List UInt8 := [26, 3, 16, 7, 184, 0, 45, 172]
abbrev dktX3_isMember_0 : List UInt8 := dkwX3_isMember_0 ++ []
theorem dksX3_isMember_0 : cX3_isMember.data.toList.drop 0 = dktX3_isMember_0 := by decide +kernel
theorem dX3_isMember_0 : decode cX3_isMember 0 = .ok (.iload_n 0, 1) := dk_26 (dk_at dksX3_isMember_0 0 rfl rfl)
theorem dX3_isMember_1 : decode cX3_isMember 1 = .ok (.iconst 0, 1) := dk_3 (dk_at dksX3_isMember_0 1 rfl rfl)
theorem dX3_isMember_2 : decode cX3_isMember 2 = .ok (.bipush 7, 2) := dk_16 7 (dk_at dksX3_isMember_0 2 rfl rfl)
theorem dX3_isMember_4 : decode cX3_isMember 4 = .ok (.invokestatic 45, 3) := dk_184 0 45 (dk_at dksX3_isMember_0 4 rfl rfl)
theorem dX3_isMember_7 : decode cX3_isMember 7 = .ok (.ireturn, 1) := dk_172 (dk_at dksX3_isMember_0 7 rfl rfl)
abbrev cX3_in : ByteArray := prog_27_method_3_code
def yX3_in : MethodName := ⟨RX3, "in", "(III)Z"⟩
def dkwX3_in_0 : List UInt8 := [26, 27, 161, 0, 12, 26, 28, 163, 0, 7, 4, 167, 0, 4, 3, 172]
abbrev dktX3_in_0 : List UInt8 := dkwX3_in_0 ++ []
theorem dksX3_in_0 : cX3_in.data.toList.drop 0 = dktX3_in_0 := by decide +kernel
theorem dX3_in_0 : decode cX3_in 0 = .ok (.iload_n 0, 1) := dk_26 (dk_at dksX3_in_0 0 rfl rfl)
theorem dX3_in_1 : decode cX3_in 1 = .ok (.iload_n 1, 1) := dk_27 (dk_at dksX3_in_0 1 rfl rfl)
theorem dX3_in_2 : decode cX3_in 2 = .ok (.if_icmp .lt 12, 3) := dk_161 0 12 (dk_at dksX3_in_0 2 rfl rfl)
theorem dX3_in_5 : decode cX3_in 5 = .ok (.iload_n 0, 1) := dk_26 (dk_at dksX3_in_0 5 rfl rfl)
theorem dX3_in_6 : decode cX3_in 6 = .ok (.iload_n 2, 1) := dk_28 (dk_at dksX3_in_0 6 rfl rfl)
theorem dX3_in_7 : decode cX3_in 7 = .ok (.if_icmp .gt 7, 3) := dk_163 0 7 (dk_at dksX3_in_0 7 rfl rfl)
theorem dX3_in_10 : decode cX3_in 10 = .ok (.iconst 1, 1) := dk_4 (dk_at dksX3_in_0 10 rfl rfl)
theorem dX3_in_11 : decode cX3_in 11 = .ok (.goto 4, 3) := dk_167 0 4 (dk_at dksX3_in_0 11 rfl rfl)
theorem dX3_in_14 : decode cX3_in 14 = .ok (.iconst 0, 1) := dk_3 (dk_at dksX3_in_0 14 rfl rfl)
theorem dX3_in_15 : decode cX3_in 15 = .ok (.ireturn, 1) := dk_172 (dk_at dksX3_in_0 15 rfl rfl)
abbrev cX3_fails : ByteArray := prog_27_method_4_code
def yX3_fails : MethodName := ⟨RX3, "fails", "(I)I"⟩
def dkwX3_fails_0 : List UInt8 := [42, 27, 181, 0, 42, 3, 172]
abbrev dktX3_fails_0 : List UInt8 := dkwX3_fails_0 ++ []
theorem dksX3_fails_0 : cX3_fails.data.toList.drop 0 = dktX3_fails_0 := by decide +kernel
theorem dX3_fails_0 : decode cX3_fails 0 = .ok (.aload_n 0, 1) := dk_42 (dk_at dksX3_fails_0 0 rfl rfl)
theorem dX3_fails_1 : decode cX3_fails 1 = .ok (.iload_n 1, 1) := dk_27 (dk_at dksX3_fails_0 1 rfl rfl)
theorem dX3_fails_2 : decode cX3_fails 2 = .ok (.putfield 42, 3) := dk_181 0 42 (dk_at dksX3_fails_0 2 rfl rfl)
theorem dX3_fails_5 : decode cX3_fails 5 = .ok (.iconst 0, 1) := dk_3 (dk_at dksX3_fails_0 5 rfl rfl)
theorem dX3_fails_6 : decode cX3_fails 6 = .ok (.ireturn, 1) := dk_172 (dk_at dksX3_fails_0 6 rfl rfl)
abbrev cX3_setPresent : ByteArray := prog_27_method_26_code
def yX3_setPresent : MethodName := ⟨RX3, "setPresent", "(IZ)Z"⟩
def dkwX3_setPresent_2 : List UInt8 := [79, 29, 172]
abbrev dktX3_setPresent_2 : List UInt8 := dkwX3_setPresent_2 ++ []
def dkwX3_setPresent_1 : List UInt8 := [172, 42, 27, 182, 0, 83, 62, 42, 180, 0, 7, 16, 9, 27, 96, 28, 153, 0, 7, 4, 167, 0, 4, 3]
abbrev dktX3_setPresent_1 : List UInt8 := dkwX3_setPresent_1 ++ dktX3_setPresent_2
def dkwX3_setPresent_0 : List UInt8 := [42, 27, 184, 0, 76, 153, 0, 7, 3, 167, 0, 4, 4, 181, 0, 42, 42, 180, 0, 42, 153, 0, 5, 3]
abbrev dktX3_setPresent_0 : List UInt8 := dkwX3_setPresent_0 ++ dktX3_setPresent_1
theorem dksX3_setPresent_0 : cX3_setPresent.data.toList.drop 0 = dktX3_setPresent_0 := by decide +kernel
theorem dksX3_setPresent_1 : cX3_setPresent.data.toList.drop 24 = dktX3_setPresent_1 := dk_seg dksX3_setPresent_0 24 rfl rfl
theorem dksX3_setPresent_2 : cX3_setPresent.data.toList.drop 48 = dktX3_setPresent_2 := dk_seg dksX3_setPresent_1 24 rfl rfl
theorem dX3_setPresent_0 : decode cX3_setPresent 0 = .ok (.aload_n 0, 1) := dk_42 (dk_at dksX3_setPresent_0 0 rfl rfl)
theorem dX3_setPresent_1 : decode cX3_setPresent 1 = .ok (.iload_n 1, 1) := dk_27 (dk_at dksX3_setPresent_0 1 rfl rfl)
theorem dX3_setPresent_2 : decode cX3_setPresent 2 = .ok (.invokestatic 76, 3) := dk_184 0 76 (dk_at dksX3_setPresent_0 2 rfl rfl)
theorem dX3_setPresent_5 : decode cX3_setPresent 5 = .ok (.ifCond .eq 7, 3) := dk_153 0 7 (dk_at dksX3_setPresent_0 5 rfl rfl)
theorem dX3_setPresent_8 : decode cX3_setPresent 8 = .ok (.iconst 0, 1) := dk_3 (dk_at dksX3_setPresent_0 8 rfl rfl)
theorem dX3_setPresent_9 : decode cX3_setPresent 9 = .ok (.goto 4, 3) := dk_167 0 4 (dk_at dksX3_setPresent_0 9 rfl rfl)
theorem dX3_setPresent_12 : decode cX3_setPresent 12 = .ok (.iconst 1, 1) := dk_4 (dk_at dksX3_setPresent_0 12 rfl rfl)
theorem dX3_setPresent_13 : decode cX3_setPresent 13 = .ok (.putfield 42, 3) := dk_181 0 42 (dk_at dksX3_setPresent_0 13 rfl rfl)
theorem dX3_setPresent_16 : decode cX3_setPresent 16 = .ok (.aload_n 0, 1) := dk_42 (dk_at dksX3_setPresent_0 16 rfl rfl)
theorem dX3_setPresent_17 : decode cX3_setPresent 17 = .ok (.getfield 42, 3) := dk_180 0 42 (dk_at dksX3_setPresent_0 17 rfl rfl)
theorem dX3_setPresent_20 : decode cX3_setPresent 20 = .ok (.ifCond .eq 5, 3) := dk_153 0 5 (dk_at dksX3_setPresent_0 20 rfl rfl)
theorem dX3_setPresent_23 : decode cX3_setPresent 23 = .ok (.iconst 0, 1) := dk_3 (dk_at dksX3_setPresent_0 23 rfl rfl)
theorem dX3_setPresent_24 : decode cX3_setPresent 24 = .ok (.ireturn, 1) := dk_172 (dk_at dksX3_setPresent_1 0 rfl rfl)
theorem dX3_setPresent_25 : decode cX3_setPresent 25 = .ok (.aload_n 0, 1) := dk_42 (dk_at dksX3_setPresent_1 1 rfl rfl)
theorem dX3_setPresent_26 : decode cX3_setPresent 26 = .ok (.iload_n 1, 1) := dk_27 (dk_at dksX3_setPresent_1 2 rfl rfl)
theorem dX3_setPresent_27 : decode cX3_setPresent 27 = .ok (.invokevirtual 83, 3) := dk_182 0 83 (dk_at dksX3_setPresent_1 3 rfl rfl)
theorem dX3_setPresent_30 : decode cX3_setPresent 30 = .ok (.istore_n 3, 1) := dk_62 (dk_at dksX3_setPresent_1 6 rfl rfl)
theorem dX3_setPresent_31 : decode cX3_setPresent 31 = .ok (.aload_n 0, 1) := dk_42 (dk_at dksX3_setPresent_1 7 rfl rfl)
theorem dX3_setPresent_32 : decode cX3_setPresent 32 = .ok (.getfield 7, 3) := dk_180 0 7 (dk_at dksX3_setPresent_1 8 rfl rfl)
theorem dX3_setPresent_35 : decode cX3_setPresent 35 = .ok (.bipush 9, 2) := dk_16 9 (dk_at dksX3_setPresent_1 11 rfl rfl)
theorem dX3_setPresent_37 : decode cX3_setPresent 37 = .ok (.iload_n 1, 1) := dk_27 (dk_at dksX3_setPresent_1 13 rfl rfl)
theorem dX3_setPresent_38 : decode cX3_setPresent 38 = .ok (.iadd, 1) := dk_96 (dk_at dksX3_setPresent_1 14 rfl rfl)
theorem dX3_setPresent_39 : decode cX3_setPresent 39 = .ok (.iload_n 2, 1) := dk_28 (dk_at dksX3_setPresent_1 15 rfl rfl)
theorem dX3_setPresent_40 : decode cX3_setPresent 40 = .ok (.ifCond .eq 7, 3) := dk_153 0 7 (dk_at dksX3_setPresent_1 16 rfl rfl)
theorem dX3_setPresent_43 : decode cX3_setPresent 43 = .ok (.iconst 1, 1) := dk_4 (dk_at dksX3_setPresent_1 19 rfl rfl)
theorem dX3_setPresent_44 : decode cX3_setPresent 44 = .ok (.goto 4, 3) := dk_167 0 4 (dk_at dksX3_setPresent_1 20 rfl rfl)
theorem dX3_setPresent_47 : decode cX3_setPresent 47 = .ok (.iconst 0, 1) := dk_3 (dk_at dksX3_setPresent_1 23 rfl rfl)
theorem dX3_setPresent_48 : decode cX3_setPresent 48 = .ok (.iastore, 1) := dk_79 (dk_at dksX3_setPresent_2 0 rfl rfl)
theorem dX3_setPresent_49 : decode cX3_setPresent 49 = .ok (.iload_n 3, 1) := dk_29 (dk_at dksX3_setPresent_2 1 rfl rfl)
theorem dX3_setPresent_50 : decode cX3_setPresent 50 = .ok (.ireturn, 1) := dk_172 (dk_at dksX3_setPresent_2 2 rfl rfl)
abbrev cX3_isPresent : ByteArray := prog_27_method_18_code
def yX3_isPresent : MethodName := ⟨RX3, "isPresent", "(I)Z"⟩
def dkwX3_isPresent_0 : List UInt8 := [42, 180, 0, 7, 16, 9, 27, 96, 46, 4, 160, 0, 7, 4, 167, 0, 4, 3, 172]
abbrev dktX3_isPresent_0 : List UInt8 := dkwX3_isPresent_0 ++ []
theorem dksX3_isPresent_0 : cX3_isPresent.data.toList.drop 0 = dktX3_isPresent_0 := by decide +kernel
theorem dX3_isPresent_0 : decode cX3_isPresent 0 = .ok (.aload_n 0, 1) := dk_42 (dk_at dksX3_isPresent_0 0 rfl rfl)
theorem dX3_isPresent_1 : decode cX3_isPresent 1 = .ok (.getfield 7, 3) := dk_180 0 7 (dk_at dksX3_isPresent_0 1 rfl rfl)
theorem dX3_isPresent_4 : decode cX3_isPresent 4 = .ok (.bipush 9, 2) := dk_16 9 (dk_at dksX3_isPresent_0 4 rfl rfl)
theorem dX3_isPresent_6 : decode cX3_isPresent 6 = .ok (.iload_n 1, 1) := dk_27 (dk_at dksX3_isPresent_0 6 rfl rfl)
theorem dX3_isPresent_7 : decode cX3_isPresent 7 = .ok (.iadd, 1) := dk_96 (dk_at dksX3_isPresent_0 7 rfl rfl)
theorem dX3_isPresent_8 : decode cX3_isPresent 8 = .ok (.iaload, 1) := dk_46 (dk_at dksX3_isPresent_0 8 rfl rfl)
theorem dX3_isPresent_9 : decode cX3_isPresent 9 = .ok (.iconst 1, 1) := dk_4 (dk_at dksX3_isPresent_0 9 rfl rfl)
theorem dX3_isPresent_10 : decode cX3_isPresent 10 = .ok (.if_icmp .ne 7, 3) := dk_160 0 7 (dk_at dksX3_isPresent_0 10 rfl rfl)
theorem dX3_isPresent_13 : decode cX3_isPresent 13 = .ok (.iconst 1, 1) := dk_4 (dk_at dksX3_isPresent_0 13 rfl rfl)
theorem dX3_isPresent_14 : decode cX3_isPresent 14 = .ok (.goto 4, 3) := dk_167 0 4 (dk_at dksX3_isPresent_0 14 rfl rfl)
theorem dX3_isPresent_17 : decode cX3_isPresent 17 = .ok (.iconst 0, 1) := dk_3 (dk_at dksX3_isPresent_0 17 rfl rfl)
theorem dX3_isPresent_18 : decode cX3_isPresent 18 = .ok (.ireturn, 1) := dk_172 (dk_at dksX3_isPresent_0 18 rfl rfl)
abbrev cX3_member : ByteArray := prog_27_method_27_code
def yX3_member : MethodName := ⟨RX3, "member", "(II)I"⟩
def dkwX3_member_5 : List UInt8 := [132, 5, 1, 167, 255, 208, 132, 4, 1, 167, 255, 189, 42, 29, 182, 0, 69, 172]
abbrev dktX3_member_5 : List UInt8 := dkwX3_member_5 ++ []
def dkwX3_member_4 : List UInt8 := [28, 5, 159, 0, 14, 42, 21, 4, 21, 5, 182, 0, 90, 153, 0, 7, 4, 167, 0, 4, 3, 96, 62]
abbrev dktX3_member_4 : List UInt8 := dkwX3_member_4 ++ dktX3_member_5
def dkwX3_member_3 : List UInt8 := [54, 5, 21, 5, 6, 27, 104, 6, 96, 163, 0, 44, 29, 42, 21, 4, 21, 5, 182, 0, 86, 153, 0, 23]
abbrev dktX3_member_3 : List UInt8 := dkwX3_member_3 ++ dktX3_member_4
def dkwX3_member_2 : List UInt8 := [27, 96, 46, 182, 0, 69, 172, 3, 62, 3, 54, 4, 21, 4, 7, 162, 0, 67, 6, 27, 104, 4, 96]
abbrev dktX3_member_2 : List UInt8 := dkwX3_member_2 ++ dktX3_member_3
def dkwX3_member_1 : List UInt8 := [182, 0, 80, 172, 28, 5, 162, 0, 25, 42, 42, 180, 0, 7, 28, 154, 0, 7, 4, 167, 0, 5, 16, 9]
abbrev dktX3_member_1 : List UInt8 := dkwX3_member_1 ++ dktX3_member_2
def dkwX3_member_0 : List UInt8 := [27, 184, 0, 76, 154, 0, 9, 42, 4, 182, 0, 80, 172, 28, 3, 6, 184, 0, 45, 154, 0, 9, 42, 5]
abbrev dktX3_member_0 : List UInt8 := dkwX3_member_0 ++ dktX3_member_1
theorem dksX3_member_0 : cX3_member.data.toList.drop 0 = dktX3_member_0 := by decide +kernel
theorem dksX3_member_1 : cX3_member.data.toList.drop 24 = dktX3_member_1 := dk_seg dksX3_member_0 24 rfl rfl
theorem dksX3_member_2 : cX3_member.data.toList.drop 48 = dktX3_member_2 := dk_seg dksX3_member_1 24 rfl rfl
theorem dksX3_member_3 : cX3_member.data.toList.drop 71 = dktX3_member_3 := dk_seg dksX3_member_2 23 rfl rfl
theorem dksX3_member_4 : cX3_member.data.toList.drop 95 = dktX3_member_4 := dk_seg dksX3_member_3 24 rfl rfl
theorem dksX3_member_5 : cX3_member.data.toList.drop 118 = dktX3_member_5 := dk_seg dksX3_member_4 23 rfl rfl
theorem dX3_member_0 : decode cX3_member 0 = .ok (.iload_n 1, 1) := dk_27 (dk_at dksX3_member_0 0 rfl rfl)
theorem dX3_member_1 : decode cX3_member 1 = .ok (.invokestatic 76, 3) := dk_184 0 76 (dk_at dksX3_member_0 1 rfl rfl)
theorem dX3_member_4 : decode cX3_member 4 = .ok (.ifCond .ne 9, 3) := dk_154 0 9 (dk_at dksX3_member_0 4 rfl rfl)
theorem dX3_member_7 : decode cX3_member 7 = .ok (.aload_n 0, 1) := dk_42 (dk_at dksX3_member_0 7 rfl rfl)
theorem dX3_member_8 : decode cX3_member 8 = .ok (.iconst 1, 1) := dk_4 (dk_at dksX3_member_0 8 rfl rfl)
theorem dX3_member_9 : decode cX3_member 9 = .ok (.invokevirtual 80, 3) := dk_182 0 80 (dk_at dksX3_member_0 9 rfl rfl)
theorem dX3_member_12 : decode cX3_member 12 = .ok (.ireturn, 1) := dk_172 (dk_at dksX3_member_0 12 rfl rfl)
theorem dX3_member_13 : decode cX3_member 13 = .ok (.iload_n 2, 1) := dk_28 (dk_at dksX3_member_0 13 rfl rfl)
theorem dX3_member_14 : decode cX3_member 14 = .ok (.iconst 0, 1) := dk_3 (dk_at dksX3_member_0 14 rfl rfl)
theorem dX3_member_15 : decode cX3_member 15 = .ok (.iconst 3, 1) := dk_6 (dk_at dksX3_member_0 15 rfl rfl)
theorem dX3_member_16 : decode cX3_member 16 = .ok (.invokestatic 45, 3) := dk_184 0 45 (dk_at dksX3_member_0 16 rfl rfl)
theorem dX3_member_19 : decode cX3_member 19 = .ok (.ifCond .ne 9, 3) := dk_154 0 9 (dk_at dksX3_member_0 19 rfl rfl)
theorem dX3_member_22 : decode cX3_member 22 = .ok (.aload_n 0, 1) := dk_42 (dk_at dksX3_member_0 22 rfl rfl)
theorem dX3_member_23 : decode cX3_member 23 = .ok (.iconst 2, 1) := dk_5 (dk_at dksX3_member_0 23 rfl rfl)
theorem dX3_member_24 : decode cX3_member 24 = .ok (.invokevirtual 80, 3) := dk_182 0 80 (dk_at dksX3_member_1 0 rfl rfl)
theorem dX3_member_27 : decode cX3_member 27 = .ok (.ireturn, 1) := dk_172 (dk_at dksX3_member_1 3 rfl rfl)
theorem dX3_member_28 : decode cX3_member 28 = .ok (.iload_n 2, 1) := dk_28 (dk_at dksX3_member_1 4 rfl rfl)
theorem dX3_member_29 : decode cX3_member 29 = .ok (.iconst 2, 1) := dk_5 (dk_at dksX3_member_1 5 rfl rfl)
theorem dX3_member_30 : decode cX3_member 30 = .ok (.if_icmp .ge 25, 3) := dk_162 0 25 (dk_at dksX3_member_1 6 rfl rfl)
theorem dX3_member_33 : decode cX3_member 33 = .ok (.aload_n 0, 1) := dk_42 (dk_at dksX3_member_1 9 rfl rfl)
theorem dX3_member_34 : decode cX3_member 34 = .ok (.aload_n 0, 1) := dk_42 (dk_at dksX3_member_1 10 rfl rfl)
theorem dX3_member_35 : decode cX3_member 35 = .ok (.getfield 7, 3) := dk_180 0 7 (dk_at dksX3_member_1 11 rfl rfl)
theorem dX3_member_38 : decode cX3_member 38 = .ok (.iload_n 2, 1) := dk_28 (dk_at dksX3_member_1 14 rfl rfl)
theorem dX3_member_39 : decode cX3_member 39 = .ok (.ifCond .ne 7, 3) := dk_154 0 7 (dk_at dksX3_member_1 15 rfl rfl)
theorem dX3_member_42 : decode cX3_member 42 = .ok (.iconst 1, 1) := dk_4 (dk_at dksX3_member_1 18 rfl rfl)
theorem dX3_member_43 : decode cX3_member 43 = .ok (.goto 5, 3) := dk_167 0 5 (dk_at dksX3_member_1 19 rfl rfl)
theorem dX3_member_46 : decode cX3_member 46 = .ok (.bipush 9, 2) := dk_16 9 (dk_at dksX3_member_1 22 rfl rfl)
theorem dX3_member_48 : decode cX3_member 48 = .ok (.iload_n 1, 1) := dk_27 (dk_at dksX3_member_2 0 rfl rfl)
theorem dX3_member_49 : decode cX3_member 49 = .ok (.iadd, 1) := dk_96 (dk_at dksX3_member_2 1 rfl rfl)
theorem dX3_member_50 : decode cX3_member 50 = .ok (.iaload, 1) := dk_46 (dk_at dksX3_member_2 2 rfl rfl)
theorem dX3_member_51 : decode cX3_member 51 = .ok (.invokevirtual 69, 3) := dk_182 0 69 (dk_at dksX3_member_2 3 rfl rfl)
theorem dX3_member_54 : decode cX3_member 54 = .ok (.ireturn, 1) := dk_172 (dk_at dksX3_member_2 6 rfl rfl)
theorem dX3_member_55 : decode cX3_member 55 = .ok (.iconst 0, 1) := dk_3 (dk_at dksX3_member_2 7 rfl rfl)
theorem dX3_member_56 : decode cX3_member 56 = .ok (.istore_n 3, 1) := dk_62 (dk_at dksX3_member_2 8 rfl rfl)
theorem dX3_member_57 : decode cX3_member 57 = .ok (.iconst 0, 1) := dk_3 (dk_at dksX3_member_2 9 rfl rfl)
theorem dX3_member_58 : decode cX3_member 58 = .ok (.istore 4, 2) := dk_54 4 (dk_at dksX3_member_2 10 rfl rfl)
theorem dX3_member_60 : decode cX3_member 60 = .ok (.iload 4, 2) := dk_21 4 (dk_at dksX3_member_2 12 rfl rfl)
theorem dX3_member_62 : decode cX3_member 62 = .ok (.iconst 4, 1) := dk_7 (dk_at dksX3_member_2 14 rfl rfl)
theorem dX3_member_63 : decode cX3_member 63 = .ok (.if_icmp .ge 67, 3) := dk_162 0 67 (dk_at dksX3_member_2 15 rfl rfl)
theorem dX3_member_66 : decode cX3_member 66 = .ok (.iconst 3, 1) := dk_6 (dk_at dksX3_member_2 18 rfl rfl)
theorem dX3_member_67 : decode cX3_member 67 = .ok (.iload_n 1, 1) := dk_27 (dk_at dksX3_member_2 19 rfl rfl)
theorem dX3_member_68 : decode cX3_member 68 = .ok (.imul, 1) := dk_104 (dk_at dksX3_member_2 20 rfl rfl)
theorem dX3_member_69 : decode cX3_member 69 = .ok (.iconst 1, 1) := dk_4 (dk_at dksX3_member_2 21 rfl rfl)
theorem dX3_member_70 : decode cX3_member 70 = .ok (.iadd, 1) := dk_96 (dk_at dksX3_member_2 22 rfl rfl)
theorem dX3_member_71 : decode cX3_member 71 = .ok (.istore 5, 2) := dk_54 5 (dk_at dksX3_member_3 0 rfl rfl)
theorem dX3_member_73 : decode cX3_member 73 = .ok (.iload 5, 2) := dk_21 5 (dk_at dksX3_member_3 2 rfl rfl)
theorem dX3_member_75 : decode cX3_member 75 = .ok (.iconst 3, 1) := dk_6 (dk_at dksX3_member_3 4 rfl rfl)
theorem dX3_member_76 : decode cX3_member 76 = .ok (.iload_n 1, 1) := dk_27 (dk_at dksX3_member_3 5 rfl rfl)
theorem dX3_member_77 : decode cX3_member 77 = .ok (.imul, 1) := dk_104 (dk_at dksX3_member_3 6 rfl rfl)
theorem dX3_member_78 : decode cX3_member 78 = .ok (.iconst 3, 1) := dk_6 (dk_at dksX3_member_3 7 rfl rfl)
theorem dX3_member_79 : decode cX3_member 79 = .ok (.iadd, 1) := dk_96 (dk_at dksX3_member_3 8 rfl rfl)
theorem dX3_member_80 : decode cX3_member 80 = .ok (.if_icmp .gt 44, 3) := dk_163 0 44 (dk_at dksX3_member_3 9 rfl rfl)
theorem dX3_member_83 : decode cX3_member 83 = .ok (.iload_n 3, 1) := dk_29 (dk_at dksX3_member_3 12 rfl rfl)
theorem dX3_member_84 : decode cX3_member 84 = .ok (.aload_n 0, 1) := dk_42 (dk_at dksX3_member_3 13 rfl rfl)
theorem dX3_member_85 : decode cX3_member 85 = .ok (.iload 4, 2) := dk_21 4 (dk_at dksX3_member_3 14 rfl rfl)
theorem dX3_member_87 : decode cX3_member 87 = .ok (.iload 5, 2) := dk_21 5 (dk_at dksX3_member_3 16 rfl rfl)
theorem dX3_member_89 : decode cX3_member 89 = .ok (.invokevirtual 86, 3) := dk_182 0 86 (dk_at dksX3_member_3 18 rfl rfl)
theorem dX3_member_92 : decode cX3_member 92 = .ok (.ifCond .eq 23, 3) := dk_153 0 23 (dk_at dksX3_member_3 21 rfl rfl)
theorem dX3_member_95 : decode cX3_member 95 = .ok (.iload_n 2, 1) := dk_28 (dk_at dksX3_member_4 0 rfl rfl)
theorem dX3_member_96 : decode cX3_member 96 = .ok (.iconst 2, 1) := dk_5 (dk_at dksX3_member_4 1 rfl rfl)
theorem dX3_member_97 : decode cX3_member 97 = .ok (.if_icmp .eq 14, 3) := dk_159 0 14 (dk_at dksX3_member_4 2 rfl rfl)
theorem dX3_member_100 : decode cX3_member 100 = .ok (.aload_n 0, 1) := dk_42 (dk_at dksX3_member_4 5 rfl rfl)
theorem dX3_member_101 : decode cX3_member 101 = .ok (.iload 4, 2) := dk_21 4 (dk_at dksX3_member_4 6 rfl rfl)
theorem dX3_member_103 : decode cX3_member 103 = .ok (.iload 5, 2) := dk_21 5 (dk_at dksX3_member_4 8 rfl rfl)
theorem dX3_member_105 : decode cX3_member 105 = .ok (.invokevirtual 90, 3) := dk_182 0 90 (dk_at dksX3_member_4 10 rfl rfl)
theorem dX3_member_108 : decode cX3_member 108 = .ok (.ifCond .eq 7, 3) := dk_153 0 7 (dk_at dksX3_member_4 13 rfl rfl)
theorem dX3_member_111 : decode cX3_member 111 = .ok (.iconst 1, 1) := dk_4 (dk_at dksX3_member_4 16 rfl rfl)
theorem dX3_member_112 : decode cX3_member 112 = .ok (.goto 4, 3) := dk_167 0 4 (dk_at dksX3_member_4 17 rfl rfl)
theorem dX3_member_115 : decode cX3_member 115 = .ok (.iconst 0, 1) := dk_3 (dk_at dksX3_member_4 20 rfl rfl)
theorem dX3_member_116 : decode cX3_member 116 = .ok (.iadd, 1) := dk_96 (dk_at dksX3_member_4 21 rfl rfl)
theorem dX3_member_117 : decode cX3_member 117 = .ok (.istore_n 3, 1) := dk_62 (dk_at dksX3_member_4 22 rfl rfl)
theorem dX3_member_118 : decode cX3_member 118 = .ok (.iinc 5 1, 3) := dk_132 5 1 (dk_at dksX3_member_5 0 rfl rfl)
theorem dX3_member_121 : decode cX3_member 121 = .ok (.goto (-48), 3) := dk_167 255 208 (dk_at dksX3_member_5 3 rfl rfl)
theorem dX3_member_124 : decode cX3_member 124 = .ok (.iinc 4 1, 3) := dk_132 4 1 (dk_at dksX3_member_5 6 rfl rfl)
theorem dX3_member_127 : decode cX3_member 127 = .ok (.goto (-67), 3) := dk_167 255 189 (dk_at dksX3_member_5 9 rfl rfl)
theorem dX3_member_130 : decode cX3_member 130 = .ok (.aload_n 0, 1) := dk_42 (dk_at dksX3_member_5 12 rfl rfl)
theorem dX3_member_131 : decode cX3_member 131 = .ok (.iload_n 3, 1) := dk_29 (dk_at dksX3_member_5 13 rfl rfl)
theorem dX3_member_132 : decode cX3_member 132 = .ok (.invokevirtual 69, 3) := dk_182 0 69 (dk_at dksX3_member_5 14 rfl rfl)
theorem dX3_member_135 : decode cX3_member 135 = .ok (.ireturn, 1) := dk_172 (dk_at dksX3_member_5 17 rfl rfl)
abbrev cX3_hasShare : ByteArray := prog_27_method_15_code
def yX3_hasShare : MethodName := ⟨RX3, "hasShare", "(II)Z"⟩
def dkwX3_hasShare_0 : List UInt8 := [42, 27, 28, 3, 182, 0, 57, 4, 160, 0, 7, 4, 167, 0, 4, 3, 172]
abbrev dktX3_hasShare_0 : List UInt8 := dkwX3_hasShare_0 ++ []
theorem dksX3_hasShare_0 : cX3_hasShare.data.toList.drop 0 = dktX3_hasShare_0 := by decide +kernel
theorem dX3_hasShare_0 : decode cX3_hasShare 0 = .ok (.aload_n 0, 1) := dk_42 (dk_at dksX3_hasShare_0 0 rfl rfl)
theorem dX3_hasShare_1 : decode cX3_hasShare 1 = .ok (.iload_n 1, 1) := dk_27 (dk_at dksX3_hasShare_0 1 rfl rfl)
theorem dX3_hasShare_2 : decode cX3_hasShare 2 = .ok (.iload_n 2, 1) := dk_28 (dk_at dksX3_hasShare_0 2 rfl rfl)
theorem dX3_hasShare_3 : decode cX3_hasShare 3 = .ok (.iconst 0, 1) := dk_3 (dk_at dksX3_hasShare_0 3 rfl rfl)
theorem dX3_hasShare_4 : decode cX3_hasShare 4 = .ok (.invokevirtual 57, 3) := dk_182 0 57 (dk_at dksX3_hasShare_0 4 rfl rfl)
theorem dX3_hasShare_7 : decode cX3_hasShare 7 = .ok (.iconst 1, 1) := dk_4 (dk_at dksX3_hasShare_0 7 rfl rfl)
theorem dX3_hasShare_8 : decode cX3_hasShare 8 = .ok (.if_icmp .ne 7, 3) := dk_160 0 7 (dk_at dksX3_hasShare_0 8 rfl rfl)
theorem dX3_hasShare_11 : decode cX3_hasShare 11 = .ok (.iconst 1, 1) := dk_4 (dk_at dksX3_hasShare_0 11 rfl rfl)
theorem dX3_hasShare_12 : decode cX3_hasShare 12 = .ok (.goto 4, 3) := dk_167 0 4 (dk_at dksX3_hasShare_0 12 rfl rfl)
theorem dX3_hasShare_15 : decode cX3_hasShare 15 = .ok (.iconst 0, 1) := dk_3 (dk_at dksX3_hasShare_0 15 rfl rfl)
theorem dX3_hasShare_16 : decode cX3_hasShare 16 = .ok (.ireturn, 1) := dk_172 (dk_at dksX3_hasShare_0 16 rfl rfl)
abbrev cX3_shareOf : ByteArray := prog_27_method_12_code
def yX3_shareOf : MethodName := ⟨RX3, "shareOf", "(III)I"⟩
def dkwX3_shareOf_0 : List UInt8 := [42, 27, 16, 52, 6, 28, 4, 100, 104, 96, 29, 96, 182, 0, 49, 172]
abbrev dktX3_shareOf_0 : List UInt8 := dkwX3_shareOf_0 ++ []
theorem dksX3_shareOf_0 : cX3_shareOf.data.toList.drop 0 = dktX3_shareOf_0 := by decide +kernel
theorem dX3_shareOf_0 : decode cX3_shareOf 0 = .ok (.aload_n 0, 1) := dk_42 (dk_at dksX3_shareOf_0 0 rfl rfl)
theorem dX3_shareOf_1 : decode cX3_shareOf 1 = .ok (.iload_n 1, 1) := dk_27 (dk_at dksX3_shareOf_0 1 rfl rfl)
theorem dX3_shareOf_2 : decode cX3_shareOf 2 = .ok (.bipush 52, 2) := dk_16 52 (dk_at dksX3_shareOf_0 2 rfl rfl)
theorem dX3_shareOf_4 : decode cX3_shareOf 4 = .ok (.iconst 3, 1) := dk_6 (dk_at dksX3_shareOf_0 4 rfl rfl)
theorem dX3_shareOf_5 : decode cX3_shareOf 5 = .ok (.iload_n 2, 1) := dk_28 (dk_at dksX3_shareOf_0 5 rfl rfl)
theorem dX3_shareOf_6 : decode cX3_shareOf 6 = .ok (.iconst 1, 1) := dk_4 (dk_at dksX3_shareOf_0 6 rfl rfl)
theorem dX3_shareOf_7 : decode cX3_shareOf 7 = .ok (.isub, 1) := dk_100 (dk_at dksX3_shareOf_0 7 rfl rfl)
theorem dX3_shareOf_8 : decode cX3_shareOf 8 = .ok (.imul, 1) := dk_104 (dk_at dksX3_shareOf_0 8 rfl rfl)
theorem dX3_shareOf_9 : decode cX3_shareOf 9 = .ok (.iadd, 1) := dk_96 (dk_at dksX3_shareOf_0 9 rfl rfl)
theorem dX3_shareOf_10 : decode cX3_shareOf 10 = .ok (.iload_n 3, 1) := dk_29 (dk_at dksX3_shareOf_0 10 rfl rfl)
theorem dX3_shareOf_11 : decode cX3_shareOf 11 = .ok (.iadd, 1) := dk_96 (dk_at dksX3_shareOf_0 11 rfl rfl)
theorem dX3_shareOf_12 : decode cX3_shareOf 12 = .ok (.invokevirtual 49, 3) := dk_182 0 49 (dk_at dksX3_shareOf_0 12 rfl rfl)
theorem dX3_shareOf_15 : decode cX3_shareOf 15 = .ok (.ireturn, 1) := dk_172 (dk_at dksX3_shareOf_0 15 rfl rfl)
abbrev cX3_of : ByteArray := prog_27_method_10_code
def yX3_of : MethodName := ⟨RX3, "of", "(II)I"⟩
def dkwX3_of_0 : List UInt8 := [42, 180, 0, 7, 16, 38, 16, 124, 27, 104, 96, 28, 96, 46, 172]
abbrev dktX3_of_0 : List UInt8 := dkwX3_of_0 ++ []
theorem dksX3_of_0 : cX3_of.data.toList.drop 0 = dktX3_of_0 := by decide +kernel
theorem dX3_of_0 : decode cX3_of 0 = .ok (.aload_n 0, 1) := dk_42 (dk_at dksX3_of_0 0 rfl rfl)
theorem dX3_of_1 : decode cX3_of 1 = .ok (.getfield 7, 3) := dk_180 0 7 (dk_at dksX3_of_0 1 rfl rfl)
theorem dX3_of_4 : decode cX3_of 4 = .ok (.bipush 38, 2) := dk_16 38 (dk_at dksX3_of_0 4 rfl rfl)
theorem dX3_of_6 : decode cX3_of 6 = .ok (.bipush 124, 2) := dk_16 124 (dk_at dksX3_of_0 6 rfl rfl)
theorem dX3_of_8 : decode cX3_of 8 = .ok (.iload_n 1, 1) := dk_27 (dk_at dksX3_of_0 8 rfl rfl)
theorem dX3_of_9 : decode cX3_of 9 = .ok (.imul, 1) := dk_104 (dk_at dksX3_of_0 9 rfl rfl)
theorem dX3_of_10 : decode cX3_of 10 = .ok (.iadd, 1) := dk_96 (dk_at dksX3_of_0 10 rfl rfl)
theorem dX3_of_11 : decode cX3_of 11 = .ok (.iload_n 2, 1) := dk_28 (dk_at dksX3_of_0 11 rfl rfl)
theorem dX3_of_12 : decode cX3_of 12 = .ok (.iadd, 1) := dk_96 (dk_at dksX3_of_0 12 rfl rfl)
theorem dX3_of_13 : decode cX3_of 13 = .ok (.iaload, 1) := dk_46 (dk_at dksX3_of_0 13 rfl rfl)
theorem dX3_of_14 : decode cX3_of 14 = .ok (.ireturn, 1) := dk_172 (dk_at dksX3_of_0 14 rfl rfl)
abbrev cX3_stateOf : ByteArray := prog_27_method_28_code
def yX3_stateOf : MethodName := ⟨RX3, "stateOf", "(II)I"⟩
def dkwX3_stateOf_4 : List UInt8 := [3, 167, 0, 4, 5, 172]
abbrev dktX3_stateOf_4 : List UInt8 := dkwX3_stateOf_4 ++ []
def dkwX3_stateOf_3 : List UInt8 := [132, 5, 1, 167, 255, 208, 7, 42, 27, 28, 4, 182, 0, 57, 17, 7, 247, 184, 0, 65, 29, 160, 0, 7]
abbrev dktX3_stateOf_3 : List UInt8 := dkwX3_stateOf_3 ++ dktX3_stateOf_4
def dkwX3_stateOf_2 : List UInt8 := [21, 4, 17, 7, 247, 184, 0, 65, 104, 17, 7, 247, 112, 62, 21, 4, 28, 104, 17, 3, 251, 112, 54, 4]
abbrev dktX3_stateOf_2 : List UInt8 := dkwX3_stateOf_2 ++ dktX3_stateOf_3
def dkwX3_stateOf_1 : List UInt8 := [54, 5, 21, 5, 42, 27, 4, 182, 0, 49, 162, 0, 43, 29, 42, 27, 6, 21, 5, 96, 182, 0, 49]
abbrev dktX3_stateOf_1 : List UInt8 := dkwX3_stateOf_1 ++ dktX3_stateOf_2
def dkwX3_stateOf_0 : List UInt8 := [42, 27, 28, 5, 182, 0, 57, 42, 27, 5, 182, 0, 49, 159, 0, 5, 4, 172, 4, 62, 4, 54, 4, 3]
abbrev dktX3_stateOf_0 : List UInt8 := dkwX3_stateOf_0 ++ dktX3_stateOf_1
theorem dksX3_stateOf_0 : cX3_stateOf.data.toList.drop 0 = dktX3_stateOf_0 := by decide +kernel
theorem dksX3_stateOf_1 : cX3_stateOf.data.toList.drop 24 = dktX3_stateOf_1 := dk_seg dksX3_stateOf_0 24 rfl rfl
theorem dksX3_stateOf_2 : cX3_stateOf.data.toList.drop 47 = dktX3_stateOf_2 := dk_seg dksX3_stateOf_1 23 rfl rfl
theorem dksX3_stateOf_3 : cX3_stateOf.data.toList.drop 71 = dktX3_stateOf_3 := dk_seg dksX3_stateOf_2 24 rfl rfl
theorem dksX3_stateOf_4 : cX3_stateOf.data.toList.drop 95 = dktX3_stateOf_4 := dk_seg dksX3_stateOf_3 24 rfl rfl
theorem dX3_stateOf_0 : decode cX3_stateOf 0 = .ok (.aload_n 0, 1) := dk_42 (dk_at dksX3_stateOf_0 0 rfl rfl)
theorem dX3_stateOf_1 : decode cX3_stateOf 1 = .ok (.iload_n 1, 1) := dk_27 (dk_at dksX3_stateOf_0 1 rfl rfl)
theorem dX3_stateOf_2 : decode cX3_stateOf 2 = .ok (.iload_n 2, 1) := dk_28 (dk_at dksX3_stateOf_0 2 rfl rfl)
theorem dX3_stateOf_3 : decode cX3_stateOf 3 = .ok (.iconst 2, 1) := dk_5 (dk_at dksX3_stateOf_0 3 rfl rfl)
theorem dX3_stateOf_4 : decode cX3_stateOf 4 = .ok (.invokevirtual 57, 3) := dk_182 0 57 (dk_at dksX3_stateOf_0 4 rfl rfl)
theorem dX3_stateOf_7 : decode cX3_stateOf 7 = .ok (.aload_n 0, 1) := dk_42 (dk_at dksX3_stateOf_0 7 rfl rfl)
theorem dX3_stateOf_8 : decode cX3_stateOf 8 = .ok (.iload_n 1, 1) := dk_27 (dk_at dksX3_stateOf_0 8 rfl rfl)
theorem dX3_stateOf_9 : decode cX3_stateOf 9 = .ok (.iconst 2, 1) := dk_5 (dk_at dksX3_stateOf_0 9 rfl rfl)
theorem dX3_stateOf_10 : decode cX3_stateOf 10 = .ok (.invokevirtual 49, 3) := dk_182 0 49 (dk_at dksX3_stateOf_0 10 rfl rfl)
theorem dX3_stateOf_13 : decode cX3_stateOf 13 = .ok (.if_icmp .eq 5, 3) := dk_159 0 5 (dk_at dksX3_stateOf_0 13 rfl rfl)
theorem dX3_stateOf_16 : decode cX3_stateOf 16 = .ok (.iconst 1, 1) := dk_4 (dk_at dksX3_stateOf_0 16 rfl rfl)
theorem dX3_stateOf_17 : decode cX3_stateOf 17 = .ok (.ireturn, 1) := dk_172 (dk_at dksX3_stateOf_0 17 rfl rfl)
theorem dX3_stateOf_18 : decode cX3_stateOf 18 = .ok (.iconst 1, 1) := dk_4 (dk_at dksX3_stateOf_0 18 rfl rfl)
theorem dX3_stateOf_19 : decode cX3_stateOf 19 = .ok (.istore_n 3, 1) := dk_62 (dk_at dksX3_stateOf_0 19 rfl rfl)
theorem dX3_stateOf_20 : decode cX3_stateOf 20 = .ok (.iconst 1, 1) := dk_4 (dk_at dksX3_stateOf_0 20 rfl rfl)
theorem dX3_stateOf_21 : decode cX3_stateOf 21 = .ok (.istore 4, 2) := dk_54 4 (dk_at dksX3_stateOf_0 21 rfl rfl)
theorem dX3_stateOf_23 : decode cX3_stateOf 23 = .ok (.iconst 0, 1) := dk_3 (dk_at dksX3_stateOf_0 23 rfl rfl)
theorem dX3_stateOf_24 : decode cX3_stateOf 24 = .ok (.istore 5, 2) := dk_54 5 (dk_at dksX3_stateOf_1 0 rfl rfl)
theorem dX3_stateOf_26 : decode cX3_stateOf 26 = .ok (.iload 5, 2) := dk_21 5 (dk_at dksX3_stateOf_1 2 rfl rfl)
theorem dX3_stateOf_28 : decode cX3_stateOf 28 = .ok (.aload_n 0, 1) := dk_42 (dk_at dksX3_stateOf_1 4 rfl rfl)
theorem dX3_stateOf_29 : decode cX3_stateOf 29 = .ok (.iload_n 1, 1) := dk_27 (dk_at dksX3_stateOf_1 5 rfl rfl)
theorem dX3_stateOf_30 : decode cX3_stateOf 30 = .ok (.iconst 1, 1) := dk_4 (dk_at dksX3_stateOf_1 6 rfl rfl)
theorem dX3_stateOf_31 : decode cX3_stateOf 31 = .ok (.invokevirtual 49, 3) := dk_182 0 49 (dk_at dksX3_stateOf_1 7 rfl rfl)
theorem dX3_stateOf_34 : decode cX3_stateOf 34 = .ok (.if_icmp .ge 43, 3) := dk_162 0 43 (dk_at dksX3_stateOf_1 10 rfl rfl)
theorem dX3_stateOf_37 : decode cX3_stateOf 37 = .ok (.iload_n 3, 1) := dk_29 (dk_at dksX3_stateOf_1 13 rfl rfl)
theorem dX3_stateOf_38 : decode cX3_stateOf 38 = .ok (.aload_n 0, 1) := dk_42 (dk_at dksX3_stateOf_1 14 rfl rfl)
theorem dX3_stateOf_39 : decode cX3_stateOf 39 = .ok (.iload_n 1, 1) := dk_27 (dk_at dksX3_stateOf_1 15 rfl rfl)
theorem dX3_stateOf_40 : decode cX3_stateOf 40 = .ok (.iconst 3, 1) := dk_6 (dk_at dksX3_stateOf_1 16 rfl rfl)
theorem dX3_stateOf_41 : decode cX3_stateOf 41 = .ok (.iload 5, 2) := dk_21 5 (dk_at dksX3_stateOf_1 17 rfl rfl)
theorem dX3_stateOf_43 : decode cX3_stateOf 43 = .ok (.iadd, 1) := dk_96 (dk_at dksX3_stateOf_1 19 rfl rfl)
theorem dX3_stateOf_44 : decode cX3_stateOf 44 = .ok (.invokevirtual 49, 3) := dk_182 0 49 (dk_at dksX3_stateOf_1 20 rfl rfl)
theorem dX3_stateOf_47 : decode cX3_stateOf 47 = .ok (.iload 4, 2) := dk_21 4 (dk_at dksX3_stateOf_2 0 rfl rfl)
theorem dX3_stateOf_49 : decode cX3_stateOf 49 = .ok (.sipush 2039, 3) := dk_17 7 247 (dk_at dksX3_stateOf_2 2 rfl rfl)
theorem dX3_stateOf_52 : decode cX3_stateOf 52 = .ok (.invokestatic 65, 3) := dk_184 0 65 (dk_at dksX3_stateOf_2 5 rfl rfl)
theorem dX3_stateOf_55 : decode cX3_stateOf 55 = .ok (.imul, 1) := dk_104 (dk_at dksX3_stateOf_2 8 rfl rfl)
theorem dX3_stateOf_56 : decode cX3_stateOf 56 = .ok (.sipush 2039, 3) := dk_17 7 247 (dk_at dksX3_stateOf_2 9 rfl rfl)
theorem dX3_stateOf_59 : decode cX3_stateOf 59 = .ok (.irem, 1) := dk_112 (dk_at dksX3_stateOf_2 12 rfl rfl)
theorem dX3_stateOf_60 : decode cX3_stateOf 60 = .ok (.istore_n 3, 1) := dk_62 (dk_at dksX3_stateOf_2 13 rfl rfl)
theorem dX3_stateOf_61 : decode cX3_stateOf 61 = .ok (.iload 4, 2) := dk_21 4 (dk_at dksX3_stateOf_2 14 rfl rfl)
theorem dX3_stateOf_63 : decode cX3_stateOf 63 = .ok (.iload_n 2, 1) := dk_28 (dk_at dksX3_stateOf_2 16 rfl rfl)
theorem dX3_stateOf_64 : decode cX3_stateOf 64 = .ok (.imul, 1) := dk_104 (dk_at dksX3_stateOf_2 17 rfl rfl)
theorem dX3_stateOf_65 : decode cX3_stateOf 65 = .ok (.sipush 1019, 3) := dk_17 3 251 (dk_at dksX3_stateOf_2 18 rfl rfl)
theorem dX3_stateOf_68 : decode cX3_stateOf 68 = .ok (.irem, 1) := dk_112 (dk_at dksX3_stateOf_2 21 rfl rfl)
theorem dX3_stateOf_69 : decode cX3_stateOf 69 = .ok (.istore 4, 2) := dk_54 4 (dk_at dksX3_stateOf_2 22 rfl rfl)
theorem dX3_stateOf_71 : decode cX3_stateOf 71 = .ok (.iinc 5 1, 3) := dk_132 5 1 (dk_at dksX3_stateOf_3 0 rfl rfl)
theorem dX3_stateOf_74 : decode cX3_stateOf 74 = .ok (.goto (-48), 3) := dk_167 255 208 (dk_at dksX3_stateOf_3 3 rfl rfl)
theorem dX3_stateOf_77 : decode cX3_stateOf 77 = .ok (.iconst 4, 1) := dk_7 (dk_at dksX3_stateOf_3 6 rfl rfl)
theorem dX3_stateOf_78 : decode cX3_stateOf 78 = .ok (.aload_n 0, 1) := dk_42 (dk_at dksX3_stateOf_3 7 rfl rfl)
theorem dX3_stateOf_79 : decode cX3_stateOf 79 = .ok (.iload_n 1, 1) := dk_27 (dk_at dksX3_stateOf_3 8 rfl rfl)
theorem dX3_stateOf_80 : decode cX3_stateOf 80 = .ok (.iload_n 2, 1) := dk_28 (dk_at dksX3_stateOf_3 9 rfl rfl)
theorem dX3_stateOf_81 : decode cX3_stateOf 81 = .ok (.iconst 1, 1) := dk_4 (dk_at dksX3_stateOf_3 10 rfl rfl)
theorem dX3_stateOf_82 : decode cX3_stateOf 82 = .ok (.invokevirtual 57, 3) := dk_182 0 57 (dk_at dksX3_stateOf_3 11 rfl rfl)
theorem dX3_stateOf_85 : decode cX3_stateOf 85 = .ok (.sipush 2039, 3) := dk_17 7 247 (dk_at dksX3_stateOf_3 14 rfl rfl)
theorem dX3_stateOf_88 : decode cX3_stateOf 88 = .ok (.invokestatic 65, 3) := dk_184 0 65 (dk_at dksX3_stateOf_3 17 rfl rfl)
theorem dX3_stateOf_91 : decode cX3_stateOf 91 = .ok (.iload_n 3, 1) := dk_29 (dk_at dksX3_stateOf_3 20 rfl rfl)
theorem dX3_stateOf_92 : decode cX3_stateOf 92 = .ok (.if_icmp .ne 7, 3) := dk_160 0 7 (dk_at dksX3_stateOf_3 21 rfl rfl)
theorem dX3_stateOf_95 : decode cX3_stateOf 95 = .ok (.iconst 0, 1) := dk_3 (dk_at dksX3_stateOf_4 0 rfl rfl)
theorem dX3_stateOf_96 : decode cX3_stateOf 96 = .ok (.goto 4, 3) := dk_167 0 4 (dk_at dksX3_stateOf_4 1 rfl rfl)
theorem dX3_stateOf_99 : decode cX3_stateOf 99 = .ok (.iconst 2, 1) := dk_5 (dk_at dksX3_stateOf_4 4 rfl rfl)
theorem dX3_stateOf_100 : decode cX3_stateOf 100 = .ok (.ireturn, 1) := dk_172 (dk_at dksX3_stateOf_4 5 rfl rfl)
abbrev cX3_power : ByteArray := prog_27_method_20_code
def yX3_power : MethodName := ⟨RX3, "power", "(III)I"⟩
def dkwX3_power_2 : List UInt8 := [54, 5, 167, 255, 217, 29, 172]
abbrev dktX3_power_2 : List UInt8 := dkwX3_power_2 ++ []
def dkwX3_power_1 : List UInt8 := [21, 4, 104, 28, 112, 167, 0, 4, 29, 62, 21, 4, 21, 4, 104, 28, 112, 54, 4, 21, 5, 4, 122]
abbrev dktX3_power_1 : List UInt8 := dkwX3_power_1 ++ dktX3_power_2
def dkwX3_power_0 : List UInt8 := [4, 62, 26, 28, 112, 54, 4, 27, 54, 5, 21, 5, 158, 0, 40, 21, 5, 4, 126, 4, 160, 0, 12, 29]
abbrev dktX3_power_0 : List UInt8 := dkwX3_power_0 ++ dktX3_power_1
theorem dksX3_power_0 : cX3_power.data.toList.drop 0 = dktX3_power_0 := by decide +kernel
theorem dksX3_power_1 : cX3_power.data.toList.drop 24 = dktX3_power_1 := dk_seg dksX3_power_0 24 rfl rfl
theorem dksX3_power_2 : cX3_power.data.toList.drop 47 = dktX3_power_2 := dk_seg dksX3_power_1 23 rfl rfl
theorem dX3_power_0 : decode cX3_power 0 = .ok (.iconst 1, 1) := dk_4 (dk_at dksX3_power_0 0 rfl rfl)
theorem dX3_power_1 : decode cX3_power 1 = .ok (.istore_n 3, 1) := dk_62 (dk_at dksX3_power_0 1 rfl rfl)
theorem dX3_power_2 : decode cX3_power 2 = .ok (.iload_n 0, 1) := dk_26 (dk_at dksX3_power_0 2 rfl rfl)
theorem dX3_power_3 : decode cX3_power 3 = .ok (.iload_n 2, 1) := dk_28 (dk_at dksX3_power_0 3 rfl rfl)
theorem dX3_power_4 : decode cX3_power 4 = .ok (.irem, 1) := dk_112 (dk_at dksX3_power_0 4 rfl rfl)
theorem dX3_power_5 : decode cX3_power 5 = .ok (.istore 4, 2) := dk_54 4 (dk_at dksX3_power_0 5 rfl rfl)
theorem dX3_power_7 : decode cX3_power 7 = .ok (.iload_n 1, 1) := dk_27 (dk_at dksX3_power_0 7 rfl rfl)
theorem dX3_power_8 : decode cX3_power 8 = .ok (.istore 5, 2) := dk_54 5 (dk_at dksX3_power_0 8 rfl rfl)
theorem dX3_power_10 : decode cX3_power 10 = .ok (.iload 5, 2) := dk_21 5 (dk_at dksX3_power_0 10 rfl rfl)
theorem dX3_power_12 : decode cX3_power 12 = .ok (.ifCond .le 40, 3) := dk_158 0 40 (dk_at dksX3_power_0 12 rfl rfl)
theorem dX3_power_15 : decode cX3_power 15 = .ok (.iload 5, 2) := dk_21 5 (dk_at dksX3_power_0 15 rfl rfl)
theorem dX3_power_17 : decode cX3_power 17 = .ok (.iconst 1, 1) := dk_4 (dk_at dksX3_power_0 17 rfl rfl)
theorem dX3_power_18 : decode cX3_power 18 = .ok (.iand, 1) := dk_126 (dk_at dksX3_power_0 18 rfl rfl)
theorem dX3_power_19 : decode cX3_power 19 = .ok (.iconst 1, 1) := dk_4 (dk_at dksX3_power_0 19 rfl rfl)
theorem dX3_power_20 : decode cX3_power 20 = .ok (.if_icmp .ne 12, 3) := dk_160 0 12 (dk_at dksX3_power_0 20 rfl rfl)
theorem dX3_power_23 : decode cX3_power 23 = .ok (.iload_n 3, 1) := dk_29 (dk_at dksX3_power_0 23 rfl rfl)
theorem dX3_power_24 : decode cX3_power 24 = .ok (.iload 4, 2) := dk_21 4 (dk_at dksX3_power_1 0 rfl rfl)
theorem dX3_power_26 : decode cX3_power 26 = .ok (.imul, 1) := dk_104 (dk_at dksX3_power_1 2 rfl rfl)
theorem dX3_power_27 : decode cX3_power 27 = .ok (.iload_n 2, 1) := dk_28 (dk_at dksX3_power_1 3 rfl rfl)
theorem dX3_power_28 : decode cX3_power 28 = .ok (.irem, 1) := dk_112 (dk_at dksX3_power_1 4 rfl rfl)
theorem dX3_power_29 : decode cX3_power 29 = .ok (.goto 4, 3) := dk_167 0 4 (dk_at dksX3_power_1 5 rfl rfl)
theorem dX3_power_32 : decode cX3_power 32 = .ok (.iload_n 3, 1) := dk_29 (dk_at dksX3_power_1 8 rfl rfl)
theorem dX3_power_33 : decode cX3_power 33 = .ok (.istore_n 3, 1) := dk_62 (dk_at dksX3_power_1 9 rfl rfl)
theorem dX3_power_34 : decode cX3_power 34 = .ok (.iload 4, 2) := dk_21 4 (dk_at dksX3_power_1 10 rfl rfl)
theorem dX3_power_36 : decode cX3_power 36 = .ok (.iload 4, 2) := dk_21 4 (dk_at dksX3_power_1 12 rfl rfl)
theorem dX3_power_38 : decode cX3_power 38 = .ok (.imul, 1) := dk_104 (dk_at dksX3_power_1 14 rfl rfl)
theorem dX3_power_39 : decode cX3_power 39 = .ok (.iload_n 2, 1) := dk_28 (dk_at dksX3_power_1 15 rfl rfl)
theorem dX3_power_40 : decode cX3_power 40 = .ok (.irem, 1) := dk_112 (dk_at dksX3_power_1 16 rfl rfl)
theorem dX3_power_41 : decode cX3_power 41 = .ok (.istore 4, 2) := dk_54 4 (dk_at dksX3_power_1 17 rfl rfl)
theorem dX3_power_43 : decode cX3_power 43 = .ok (.iload 5, 2) := dk_21 5 (dk_at dksX3_power_1 19 rfl rfl)
theorem dX3_power_45 : decode cX3_power 45 = .ok (.iconst 1, 1) := dk_4 (dk_at dksX3_power_1 21 rfl rfl)
theorem dX3_power_46 : decode cX3_power 46 = .ok (.ishr, 1) := dk_122 (dk_at dksX3_power_1 22 rfl rfl)
theorem dX3_power_47 : decode cX3_power 47 = .ok (.istore 5, 2) := dk_54 5 (dk_at dksX3_power_2 0 rfl rfl)
theorem dX3_power_49 : decode cX3_power 49 = .ok (.goto (-39), 3) := dk_167 255 217 (dk_at dksX3_power_2 2 rfl rfl)
theorem dX3_power_52 : decode cX3_power 52 = .ok (.iload_n 3, 1) := dk_29 (dk_at dksX3_power_2 5 rfl rfl)
theorem dX3_power_53 : decode cX3_power 53 = .ok (.ireturn, 1) := dk_172 (dk_at dksX3_power_2 6 rfl rfl)
abbrev cX3_put : ByteArray := prog_27_method_33_code
def yX3_put : MethodName := ⟨RX3, "put", "(III)I"⟩
def dkwX3_put_3 : List UInt8 := [42, 16, 100, 27, 96, 182, 0, 117, 42, 21, 4, 182, 0, 69, 172]
abbrev dktX3_put_3 : List UInt8 := dkwX3_put_3 ++ []
def dkwX3_put_2 : List UInt8 := [42, 6, 182, 0, 80, 172, 42, 27, 16, 11, 3, 182, 0, 53, 42, 27, 28, 29, 4, 182, 0, 113, 54, 4]
abbrev dktX3_put_2 : List UInt8 := dkwX3_put_2 ++ dktX3_put_3
def dkwX3_put_1 : List UInt8 := [29, 4, 16, 8, 184, 0, 45, 154, 0, 9, 42, 5, 182, 0, 80, 172, 42, 182, 0, 110, 29, 162, 0, 9]
abbrev dktX3_put_1 : List UInt8 := dkwX3_put_1 ++ dktX3_put_2
def dkwX3_put_0 : List UInt8 := [27, 184, 0, 107, 154, 0, 9, 42, 4, 182, 0, 80, 172, 28, 3, 17, 3, 250, 184, 0, 45, 153, 0, 13]
abbrev dktX3_put_0 : List UInt8 := dkwX3_put_0 ++ dktX3_put_1
theorem dksX3_put_0 : cX3_put.data.toList.drop 0 = dktX3_put_0 := by decide +kernel
theorem dksX3_put_1 : cX3_put.data.toList.drop 24 = dktX3_put_1 := dk_seg dksX3_put_0 24 rfl rfl
theorem dksX3_put_2 : cX3_put.data.toList.drop 48 = dktX3_put_2 := dk_seg dksX3_put_1 24 rfl rfl
theorem dksX3_put_3 : cX3_put.data.toList.drop 72 = dktX3_put_3 := dk_seg dksX3_put_2 24 rfl rfl
theorem dX3_put_0 : decode cX3_put 0 = .ok (.iload_n 1, 1) := dk_27 (dk_at dksX3_put_0 0 rfl rfl)
theorem dX3_put_1 : decode cX3_put 1 = .ok (.invokestatic 107, 3) := dk_184 0 107 (dk_at dksX3_put_0 1 rfl rfl)
theorem dX3_put_4 : decode cX3_put 4 = .ok (.ifCond .ne 9, 3) := dk_154 0 9 (dk_at dksX3_put_0 4 rfl rfl)
theorem dX3_put_7 : decode cX3_put 7 = .ok (.aload_n 0, 1) := dk_42 (dk_at dksX3_put_0 7 rfl rfl)
theorem dX3_put_8 : decode cX3_put 8 = .ok (.iconst 1, 1) := dk_4 (dk_at dksX3_put_0 8 rfl rfl)
theorem dX3_put_9 : decode cX3_put 9 = .ok (.invokevirtual 80, 3) := dk_182 0 80 (dk_at dksX3_put_0 9 rfl rfl)
theorem dX3_put_12 : decode cX3_put 12 = .ok (.ireturn, 1) := dk_172 (dk_at dksX3_put_0 12 rfl rfl)
theorem dX3_put_13 : decode cX3_put 13 = .ok (.iload_n 2, 1) := dk_28 (dk_at dksX3_put_0 13 rfl rfl)
theorem dX3_put_14 : decode cX3_put 14 = .ok (.iconst 0, 1) := dk_3 (dk_at dksX3_put_0 14 rfl rfl)
theorem dX3_put_15 : decode cX3_put 15 = .ok (.sipush 1018, 3) := dk_17 3 250 (dk_at dksX3_put_0 15 rfl rfl)
theorem dX3_put_18 : decode cX3_put 18 = .ok (.invokestatic 45, 3) := dk_184 0 45 (dk_at dksX3_put_0 18 rfl rfl)
theorem dX3_put_21 : decode cX3_put 21 = .ok (.ifCond .eq 13, 3) := dk_153 0 13 (dk_at dksX3_put_0 21 rfl rfl)
theorem dX3_put_24 : decode cX3_put 24 = .ok (.iload_n 3, 1) := dk_29 (dk_at dksX3_put_1 0 rfl rfl)
theorem dX3_put_25 : decode cX3_put 25 = .ok (.iconst 1, 1) := dk_4 (dk_at dksX3_put_1 1 rfl rfl)
theorem dX3_put_26 : decode cX3_put 26 = .ok (.bipush 8, 2) := dk_16 8 (dk_at dksX3_put_1 2 rfl rfl)
theorem dX3_put_28 : decode cX3_put 28 = .ok (.invokestatic 45, 3) := dk_184 0 45 (dk_at dksX3_put_1 4 rfl rfl)
theorem dX3_put_31 : decode cX3_put 31 = .ok (.ifCond .ne 9, 3) := dk_154 0 9 (dk_at dksX3_put_1 7 rfl rfl)
theorem dX3_put_34 : decode cX3_put 34 = .ok (.aload_n 0, 1) := dk_42 (dk_at dksX3_put_1 10 rfl rfl)
theorem dX3_put_35 : decode cX3_put 35 = .ok (.iconst 2, 1) := dk_5 (dk_at dksX3_put_1 11 rfl rfl)
theorem dX3_put_36 : decode cX3_put 36 = .ok (.invokevirtual 80, 3) := dk_182 0 80 (dk_at dksX3_put_1 12 rfl rfl)
theorem dX3_put_39 : decode cX3_put 39 = .ok (.ireturn, 1) := dk_172 (dk_at dksX3_put_1 15 rfl rfl)
theorem dX3_put_40 : decode cX3_put 40 = .ok (.aload_n 0, 1) := dk_42 (dk_at dksX3_put_1 16 rfl rfl)
theorem dX3_put_41 : decode cX3_put 41 = .ok (.invokevirtual 110, 3) := dk_182 0 110 (dk_at dksX3_put_1 17 rfl rfl)
theorem dX3_put_44 : decode cX3_put 44 = .ok (.iload_n 3, 1) := dk_29 (dk_at dksX3_put_1 20 rfl rfl)
theorem dX3_put_45 : decode cX3_put 45 = .ok (.if_icmp .ge 9, 3) := dk_162 0 9 (dk_at dksX3_put_1 21 rfl rfl)
theorem dX3_put_48 : decode cX3_put 48 = .ok (.aload_n 0, 1) := dk_42 (dk_at dksX3_put_2 0 rfl rfl)
theorem dX3_put_49 : decode cX3_put 49 = .ok (.iconst 3, 1) := dk_6 (dk_at dksX3_put_2 1 rfl rfl)
theorem dX3_put_50 : decode cX3_put 50 = .ok (.invokevirtual 80, 3) := dk_182 0 80 (dk_at dksX3_put_2 2 rfl rfl)
theorem dX3_put_53 : decode cX3_put 53 = .ok (.ireturn, 1) := dk_172 (dk_at dksX3_put_2 5 rfl rfl)
theorem dX3_put_54 : decode cX3_put 54 = .ok (.aload_n 0, 1) := dk_42 (dk_at dksX3_put_2 6 rfl rfl)
theorem dX3_put_55 : decode cX3_put 55 = .ok (.iload_n 1, 1) := dk_27 (dk_at dksX3_put_2 7 rfl rfl)
theorem dX3_put_56 : decode cX3_put 56 = .ok (.bipush 11, 2) := dk_16 11 (dk_at dksX3_put_2 8 rfl rfl)
theorem dX3_put_58 : decode cX3_put 58 = .ok (.iconst 0, 1) := dk_3 (dk_at dksX3_put_2 10 rfl rfl)
theorem dX3_put_59 : decode cX3_put 59 = .ok (.invokevirtual 53, 3) := dk_182 0 53 (dk_at dksX3_put_2 11 rfl rfl)
theorem dX3_put_62 : decode cX3_put 62 = .ok (.aload_n 0, 1) := dk_42 (dk_at dksX3_put_2 14 rfl rfl)
theorem dX3_put_63 : decode cX3_put 63 = .ok (.iload_n 1, 1) := dk_27 (dk_at dksX3_put_2 15 rfl rfl)
theorem dX3_put_64 : decode cX3_put 64 = .ok (.iload_n 2, 1) := dk_28 (dk_at dksX3_put_2 16 rfl rfl)
theorem dX3_put_65 : decode cX3_put 65 = .ok (.iload_n 3, 1) := dk_29 (dk_at dksX3_put_2 17 rfl rfl)
theorem dX3_put_66 : decode cX3_put 66 = .ok (.iconst 1, 1) := dk_4 (dk_at dksX3_put_2 18 rfl rfl)
theorem dX3_put_67 : decode cX3_put 67 = .ok (.invokevirtual 113, 3) := dk_182 0 113 (dk_at dksX3_put_2 19 rfl rfl)
theorem dX3_put_70 : decode cX3_put 70 = .ok (.istore 4, 2) := dk_54 4 (dk_at dksX3_put_2 22 rfl rfl)
theorem dX3_put_72 : decode cX3_put 72 = .ok (.aload_n 0, 1) := dk_42 (dk_at dksX3_put_3 0 rfl rfl)
theorem dX3_put_73 : decode cX3_put 73 = .ok (.bipush 100, 2) := dk_16 100 (dk_at dksX3_put_3 1 rfl rfl)
theorem dX3_put_75 : decode cX3_put 75 = .ok (.iload_n 1, 1) := dk_27 (dk_at dksX3_put_3 3 rfl rfl)
theorem dX3_put_76 : decode cX3_put 76 = .ok (.iadd, 1) := dk_96 (dk_at dksX3_put_3 4 rfl rfl)
theorem dX3_put_77 : decode cX3_put 77 = .ok (.invokevirtual 117, 3) := dk_182 0 117 (dk_at dksX3_put_3 5 rfl rfl)
theorem dX3_put_80 : decode cX3_put 80 = .ok (.aload_n 0, 1) := dk_42 (dk_at dksX3_put_3 8 rfl rfl)
theorem dX3_put_81 : decode cX3_put 81 = .ok (.iload 4, 2) := dk_21 4 (dk_at dksX3_put_3 9 rfl rfl)
theorem dX3_put_83 : decode cX3_put 83 = .ok (.invokevirtual 69, 3) := dk_182 0 69 (dk_at dksX3_put_3 11 rfl rfl)
theorem dX3_put_86 : decode cX3_put 86 = .ok (.ireturn, 1) := dk_172 (dk_at dksX3_put_3 14 rfl rfl)
abbrev cX3_isSlot : ByteArray := prog_27_method_7_code
def yX3_isSlot : MethodName := ⟨RX3, "isSlot", "(I)Z"⟩
def dkwX3_isSlot_0 : List UInt8 := [26, 3, 6, 184, 0, 45, 172]
abbrev dktX3_isSlot_0 : List UInt8 := dkwX3_isSlot_0 ++ []
theorem dksX3_isSlot_0 : cX3_isSlot.data.toList.drop 0 = dktX3_isSlot_0 := by decide +kernel
theorem dX3_isSlot_0 : decode cX3_isSlot 0 = .ok (.iload_n 0, 1) := dk_26 (dk_at dksX3_isSlot_0 0 rfl rfl)
theorem dX3_isSlot_1 : decode cX3_isSlot 1 = .ok (.iconst 0, 1) := dk_3 (dk_at dksX3_isSlot_0 1 rfl rfl)
theorem dX3_isSlot_2 : decode cX3_isSlot 2 = .ok (.iconst 3, 1) := dk_6 (dk_at dksX3_isSlot_0 2 rfl rfl)
theorem dX3_isSlot_3 : decode cX3_isSlot 3 = .ok (.invokestatic 45, 3) := dk_184 0 45 (dk_at dksX3_isSlot_0 3 rfl rfl)
theorem dX3_isSlot_6 : decode cX3_isSlot 6 = .ok (.ireturn, 1) := dk_172 (dk_at dksX3_isSlot_0 6 rfl rfl)
abbrev cX3_usedPlaces : ByteArray := prog_27_method_31_code
def yX3_usedPlaces : MethodName := ⟨RX3, "usedPlaces", "()I"⟩
def dkwX3_usedPlaces_1 : List UInt8 := [28, 96, 46, 167, 0, 4, 3, 96, 60, 132, 2, 1, 167, 255, 224, 27, 172]
abbrev dktX3_usedPlaces_1 : List UInt8 := dkwX3_usedPlaces_1 ++ []
def dkwX3_usedPlaces_0 : List UInt8 := [3, 60, 3, 61, 28, 16, 8, 162, 0, 32, 27, 42, 28, 182, 0, 83, 153, 0, 14, 42, 180, 0, 7, 4]
abbrev dktX3_usedPlaces_0 : List UInt8 := dkwX3_usedPlaces_0 ++ dktX3_usedPlaces_1
theorem dksX3_usedPlaces_0 : cX3_usedPlaces.data.toList.drop 0 = dktX3_usedPlaces_0 := by decide +kernel
theorem dksX3_usedPlaces_1 : cX3_usedPlaces.data.toList.drop 24 = dktX3_usedPlaces_1 := dk_seg dksX3_usedPlaces_0 24 rfl rfl
theorem dX3_usedPlaces_0 : decode cX3_usedPlaces 0 = .ok (.iconst 0, 1) := dk_3 (dk_at dksX3_usedPlaces_0 0 rfl rfl)
theorem dX3_usedPlaces_1 : decode cX3_usedPlaces 1 = .ok (.istore_n 1, 1) := dk_60 (dk_at dksX3_usedPlaces_0 1 rfl rfl)
theorem dX3_usedPlaces_2 : decode cX3_usedPlaces 2 = .ok (.iconst 0, 1) := dk_3 (dk_at dksX3_usedPlaces_0 2 rfl rfl)
theorem dX3_usedPlaces_3 : decode cX3_usedPlaces 3 = .ok (.istore_n 2, 1) := dk_61 (dk_at dksX3_usedPlaces_0 3 rfl rfl)
theorem dX3_usedPlaces_4 : decode cX3_usedPlaces 4 = .ok (.iload_n 2, 1) := dk_28 (dk_at dksX3_usedPlaces_0 4 rfl rfl)
theorem dX3_usedPlaces_5 : decode cX3_usedPlaces 5 = .ok (.bipush 8, 2) := dk_16 8 (dk_at dksX3_usedPlaces_0 5 rfl rfl)
theorem dX3_usedPlaces_7 : decode cX3_usedPlaces 7 = .ok (.if_icmp .ge 32, 3) := dk_162 0 32 (dk_at dksX3_usedPlaces_0 7 rfl rfl)
theorem dX3_usedPlaces_10 : decode cX3_usedPlaces 10 = .ok (.iload_n 1, 1) := dk_27 (dk_at dksX3_usedPlaces_0 10 rfl rfl)
theorem dX3_usedPlaces_11 : decode cX3_usedPlaces 11 = .ok (.aload_n 0, 1) := dk_42 (dk_at dksX3_usedPlaces_0 11 rfl rfl)
theorem dX3_usedPlaces_12 : decode cX3_usedPlaces 12 = .ok (.iload_n 2, 1) := dk_28 (dk_at dksX3_usedPlaces_0 12 rfl rfl)
theorem dX3_usedPlaces_13 : decode cX3_usedPlaces 13 = .ok (.invokevirtual 83, 3) := dk_182 0 83 (dk_at dksX3_usedPlaces_0 13 rfl rfl)
theorem dX3_usedPlaces_16 : decode cX3_usedPlaces 16 = .ok (.ifCond .eq 14, 3) := dk_153 0 14 (dk_at dksX3_usedPlaces_0 16 rfl rfl)
theorem dX3_usedPlaces_19 : decode cX3_usedPlaces 19 = .ok (.aload_n 0, 1) := dk_42 (dk_at dksX3_usedPlaces_0 19 rfl rfl)
theorem dX3_usedPlaces_20 : decode cX3_usedPlaces 20 = .ok (.getfield 7, 3) := dk_180 0 7 (dk_at dksX3_usedPlaces_0 20 rfl rfl)
theorem dX3_usedPlaces_23 : decode cX3_usedPlaces 23 = .ok (.iconst 1, 1) := dk_4 (dk_at dksX3_usedPlaces_0 23 rfl rfl)
theorem dX3_usedPlaces_24 : decode cX3_usedPlaces 24 = .ok (.iload_n 2, 1) := dk_28 (dk_at dksX3_usedPlaces_1 0 rfl rfl)
theorem dX3_usedPlaces_25 : decode cX3_usedPlaces 25 = .ok (.iadd, 1) := dk_96 (dk_at dksX3_usedPlaces_1 1 rfl rfl)
theorem dX3_usedPlaces_26 : decode cX3_usedPlaces 26 = .ok (.iaload, 1) := dk_46 (dk_at dksX3_usedPlaces_1 2 rfl rfl)
theorem dX3_usedPlaces_27 : decode cX3_usedPlaces 27 = .ok (.goto 4, 3) := dk_167 0 4 (dk_at dksX3_usedPlaces_1 3 rfl rfl)
theorem dX3_usedPlaces_30 : decode cX3_usedPlaces 30 = .ok (.iconst 0, 1) := dk_3 (dk_at dksX3_usedPlaces_1 6 rfl rfl)
theorem dX3_usedPlaces_31 : decode cX3_usedPlaces 31 = .ok (.iadd, 1) := dk_96 (dk_at dksX3_usedPlaces_1 7 rfl rfl)
theorem dX3_usedPlaces_32 : decode cX3_usedPlaces 32 = .ok (.istore_n 1, 1) := dk_60 (dk_at dksX3_usedPlaces_1 8 rfl rfl)
theorem dX3_usedPlaces_33 : decode cX3_usedPlaces 33 = .ok (.iinc 2 1, 3) := dk_132 2 1 (dk_at dksX3_usedPlaces_1 9 rfl rfl)
theorem dX3_usedPlaces_36 : decode cX3_usedPlaces 36 = .ok (.goto (-32), 3) := dk_167 255 224 (dk_at dksX3_usedPlaces_1 12 rfl rfl)
theorem dX3_usedPlaces_39 : decode cX3_usedPlaces 39 = .ok (.iload_n 1, 1) := dk_27 (dk_at dksX3_usedPlaces_1 15 rfl rfl)
theorem dX3_usedPlaces_40 : decode cX3_usedPlaces 40 = .ok (.ireturn, 1) := dk_172 (dk_at dksX3_usedPlaces_1 16 rfl rfl)
abbrev cX3_sets : ByteArray := prog_27_method_11_code
def yX3_sets : MethodName := ⟨RX3, "sets", "(III)V"⟩
def dkwX3_sets_0 : List UInt8 := [42, 180, 0, 7, 16, 38, 16, 124, 27, 104, 96, 28, 96, 29, 79, 177]
abbrev dktX3_sets_0 : List UInt8 := dkwX3_sets_0 ++ []
theorem dksX3_sets_0 : cX3_sets.data.toList.drop 0 = dktX3_sets_0 := by decide +kernel
theorem dX3_sets_0 : decode cX3_sets 0 = .ok (.aload_n 0, 1) := dk_42 (dk_at dksX3_sets_0 0 rfl rfl)
theorem dX3_sets_1 : decode cX3_sets 1 = .ok (.getfield 7, 3) := dk_180 0 7 (dk_at dksX3_sets_0 1 rfl rfl)
theorem dX3_sets_4 : decode cX3_sets 4 = .ok (.bipush 38, 2) := dk_16 38 (dk_at dksX3_sets_0 4 rfl rfl)
theorem dX3_sets_6 : decode cX3_sets 6 = .ok (.bipush 124, 2) := dk_16 124 (dk_at dksX3_sets_0 6 rfl rfl)
theorem dX3_sets_8 : decode cX3_sets 8 = .ok (.iload_n 1, 1) := dk_27 (dk_at dksX3_sets_0 8 rfl rfl)
theorem dX3_sets_9 : decode cX3_sets 9 = .ok (.imul, 1) := dk_104 (dk_at dksX3_sets_0 9 rfl rfl)
theorem dX3_sets_10 : decode cX3_sets 10 = .ok (.iadd, 1) := dk_96 (dk_at dksX3_sets_0 10 rfl rfl)
theorem dX3_sets_11 : decode cX3_sets 11 = .ok (.iload_n 2, 1) := dk_28 (dk_at dksX3_sets_0 11 rfl rfl)
theorem dX3_sets_12 : decode cX3_sets 12 = .ok (.iadd, 1) := dk_96 (dk_at dksX3_sets_0 12 rfl rfl)
theorem dX3_sets_13 : decode cX3_sets 13 = .ok (.iload_n 3, 1) := dk_29 (dk_at dksX3_sets_0 13 rfl rfl)
theorem dX3_sets_14 : decode cX3_sets 14 = .ok (.iastore, 1) := dk_79 (dk_at dksX3_sets_0 14 rfl rfl)
theorem dX3_sets_15 : decode cX3_sets 15 = .ok (.return_, 1) := dk_177 (dk_at dksX3_sets_0 15 rfl rfl)
abbrev cX3_deals : ByteArray := prog_27_method_32_code
def yX3_deals : MethodName := ⟨RX3, "deals", "(IIII)I"⟩
def dkwX3_deals_7 : List UInt8 := [27, 5, 21, 4, 182, 0, 53, 21, 5, 172]
abbrev dktX3_deals_7 : List UInt8 := dkwX3_deals_7 ++ []
def dkwX3_deals_6 : List UInt8 := [182, 0, 53, 132, 6, 1, 167, 255, 213, 42, 27, 3, 4, 182, 0, 53, 42, 27, 4, 29, 182, 0, 53, 42]
abbrev dktX3_deals_6 : List UInt8 := dkwX3_deals_6 ++ dktX3_deals_7
def dkwX3_deals_5 : List UInt8 := [29, 162, 0, 20, 7, 42, 180, 0, 16, 21, 6, 46, 17, 7, 247, 184, 0, 65, 167, 0, 4, 3]
abbrev dktX3_deals_5 : List UInt8 := dkwX3_deals_5 ++ dktX3_deals_6
def dkwX3_deals_4 : List UInt8 := [132, 6, 1, 167, 255, 199, 3, 54, 6, 21, 6, 16, 8, 162, 0, 42, 42, 27, 6, 21, 6, 96, 21, 6]
abbrev dktX3_deals_4 : List UInt8 := dkwX3_deals_4 ++ dktX3_deals_5
def dkwX3_deals_3 : List UInt8 := [153, 0, 22, 42, 27, 21, 6, 42, 29, 21, 6, 182, 0, 100, 21, 4, 182, 0, 103, 132, 5, 1]
abbrev dktX3_deals_3 : List UInt8 := dkwX3_deals_3 ++ dktX3_deals_4
def dkwX3_deals_2 : List UInt8 := [27, 21, 6, 182, 0, 93, 42, 21, 6, 184, 0, 61, 182, 0, 83, 153, 0, 31, 42, 21, 6, 182, 0, 97]
abbrev dktX3_deals_2 : List UInt8 := dkwX3_deals_2 ++ dktX3_deals_3
def dkwX3_deals_1 : List UInt8 := [182, 0, 72, 79, 132, 5, 1, 167, 255, 236, 3, 54, 5, 4, 54, 6, 21, 6, 16, 24, 163, 0, 56, 42]
abbrev dktX3_deals_1 : List UInt8 := dkwX3_deals_1 ++ dktX3_deals_2
def dkwX3_deals_0 : List UInt8 := [42, 180, 0, 16, 3, 28, 79, 4, 54, 5, 21, 5, 29, 162, 0, 20, 42, 180, 0, 16, 21, 5, 42]
abbrev dktX3_deals_0 : List UInt8 := dkwX3_deals_0 ++ dktX3_deals_1
theorem dksX3_deals_0 : cX3_deals.data.toList.drop 0 = dktX3_deals_0 := by decide +kernel
theorem dksX3_deals_1 : cX3_deals.data.toList.drop 23 = dktX3_deals_1 := dk_seg dksX3_deals_0 23 rfl rfl
theorem dksX3_deals_2 : cX3_deals.data.toList.drop 47 = dktX3_deals_2 := dk_seg dksX3_deals_1 24 rfl rfl
theorem dksX3_deals_3 : cX3_deals.data.toList.drop 71 = dktX3_deals_3 := dk_seg dksX3_deals_2 24 rfl rfl
theorem dksX3_deals_4 : cX3_deals.data.toList.drop 93 = dktX3_deals_4 := dk_seg dksX3_deals_3 22 rfl rfl
theorem dksX3_deals_5 : cX3_deals.data.toList.drop 117 = dktX3_deals_5 := dk_seg dksX3_deals_4 24 rfl rfl
theorem dksX3_deals_6 : cX3_deals.data.toList.drop 139 = dktX3_deals_6 := dk_seg dksX3_deals_5 22 rfl rfl
theorem dksX3_deals_7 : cX3_deals.data.toList.drop 163 = dktX3_deals_7 := dk_seg dksX3_deals_6 24 rfl rfl
theorem dX3_deals_0 : decode cX3_deals 0 = .ok (.aload_n 0, 1) := dk_42 (dk_at dksX3_deals_0 0 rfl rfl)
theorem dX3_deals_1 : decode cX3_deals 1 = .ok (.getfield 16, 3) := dk_180 0 16 (dk_at dksX3_deals_0 1 rfl rfl)
theorem dX3_deals_4 : decode cX3_deals 4 = .ok (.iconst 0, 1) := dk_3 (dk_at dksX3_deals_0 4 rfl rfl)
theorem dX3_deals_5 : decode cX3_deals 5 = .ok (.iload_n 2, 1) := dk_28 (dk_at dksX3_deals_0 5 rfl rfl)
theorem dX3_deals_6 : decode cX3_deals 6 = .ok (.iastore, 1) := dk_79 (dk_at dksX3_deals_0 6 rfl rfl)
theorem dX3_deals_7 : decode cX3_deals 7 = .ok (.iconst 1, 1) := dk_4 (dk_at dksX3_deals_0 7 rfl rfl)
theorem dX3_deals_8 : decode cX3_deals 8 = .ok (.istore 5, 2) := dk_54 5 (dk_at dksX3_deals_0 8 rfl rfl)
theorem dX3_deals_10 : decode cX3_deals 10 = .ok (.iload 5, 2) := dk_21 5 (dk_at dksX3_deals_0 10 rfl rfl)
theorem dX3_deals_12 : decode cX3_deals 12 = .ok (.iload_n 3, 1) := dk_29 (dk_at dksX3_deals_0 12 rfl rfl)
theorem dX3_deals_13 : decode cX3_deals 13 = .ok (.if_icmp .ge 20, 3) := dk_162 0 20 (dk_at dksX3_deals_0 13 rfl rfl)
theorem dX3_deals_16 : decode cX3_deals 16 = .ok (.aload_n 0, 1) := dk_42 (dk_at dksX3_deals_0 16 rfl rfl)
theorem dX3_deals_17 : decode cX3_deals 17 = .ok (.getfield 16, 3) := dk_180 0 16 (dk_at dksX3_deals_0 17 rfl rfl)
theorem dX3_deals_20 : decode cX3_deals 20 = .ok (.iload 5, 2) := dk_21 5 (dk_at dksX3_deals_0 20 rfl rfl)
theorem dX3_deals_22 : decode cX3_deals 22 = .ok (.aload_n 0, 1) := dk_42 (dk_at dksX3_deals_0 22 rfl rfl)
theorem dX3_deals_23 : decode cX3_deals 23 = .ok (.invokevirtual 72, 3) := dk_182 0 72 (dk_at dksX3_deals_1 0 rfl rfl)
theorem dX3_deals_26 : decode cX3_deals 26 = .ok (.iastore, 1) := dk_79 (dk_at dksX3_deals_1 3 rfl rfl)
theorem dX3_deals_27 : decode cX3_deals 27 = .ok (.iinc 5 1, 3) := dk_132 5 1 (dk_at dksX3_deals_1 4 rfl rfl)
theorem dX3_deals_30 : decode cX3_deals 30 = .ok (.goto (-20), 3) := dk_167 255 236 (dk_at dksX3_deals_1 7 rfl rfl)
theorem dX3_deals_33 : decode cX3_deals 33 = .ok (.iconst 0, 1) := dk_3 (dk_at dksX3_deals_1 10 rfl rfl)
theorem dX3_deals_34 : decode cX3_deals 34 = .ok (.istore 5, 2) := dk_54 5 (dk_at dksX3_deals_1 11 rfl rfl)
theorem dX3_deals_36 : decode cX3_deals 36 = .ok (.iconst 1, 1) := dk_4 (dk_at dksX3_deals_1 13 rfl rfl)
theorem dX3_deals_37 : decode cX3_deals 37 = .ok (.istore 6, 2) := dk_54 6 (dk_at dksX3_deals_1 14 rfl rfl)
theorem dX3_deals_39 : decode cX3_deals 39 = .ok (.iload 6, 2) := dk_21 6 (dk_at dksX3_deals_1 16 rfl rfl)
theorem dX3_deals_41 : decode cX3_deals 41 = .ok (.bipush 24, 2) := dk_16 24 (dk_at dksX3_deals_1 18 rfl rfl)
theorem dX3_deals_43 : decode cX3_deals 43 = .ok (.if_icmp .gt 56, 3) := dk_163 0 56 (dk_at dksX3_deals_1 20 rfl rfl)
theorem dX3_deals_46 : decode cX3_deals 46 = .ok (.aload_n 0, 1) := dk_42 (dk_at dksX3_deals_1 23 rfl rfl)
theorem dX3_deals_47 : decode cX3_deals 47 = .ok (.iload_n 1, 1) := dk_27 (dk_at dksX3_deals_2 0 rfl rfl)
theorem dX3_deals_48 : decode cX3_deals 48 = .ok (.iload 6, 2) := dk_21 6 (dk_at dksX3_deals_2 1 rfl rfl)
theorem dX3_deals_50 : decode cX3_deals 50 = .ok (.invokevirtual 93, 3) := dk_182 0 93 (dk_at dksX3_deals_2 3 rfl rfl)
theorem dX3_deals_53 : decode cX3_deals 53 = .ok (.aload_n 0, 1) := dk_42 (dk_at dksX3_deals_2 6 rfl rfl)
theorem dX3_deals_54 : decode cX3_deals 54 = .ok (.iload 6, 2) := dk_21 6 (dk_at dksX3_deals_2 7 rfl rfl)
theorem dX3_deals_56 : decode cX3_deals 56 = .ok (.invokestatic 61, 3) := dk_184 0 61 (dk_at dksX3_deals_2 9 rfl rfl)
theorem dX3_deals_59 : decode cX3_deals 59 = .ok (.invokevirtual 83, 3) := dk_182 0 83 (dk_at dksX3_deals_2 12 rfl rfl)
theorem dX3_deals_62 : decode cX3_deals 62 = .ok (.ifCond .eq 31, 3) := dk_153 0 31 (dk_at dksX3_deals_2 15 rfl rfl)
theorem dX3_deals_65 : decode cX3_deals 65 = .ok (.aload_n 0, 1) := dk_42 (dk_at dksX3_deals_2 18 rfl rfl)
theorem dX3_deals_66 : decode cX3_deals 66 = .ok (.iload 6, 2) := dk_21 6 (dk_at dksX3_deals_2 19 rfl rfl)
theorem dX3_deals_68 : decode cX3_deals 68 = .ok (.invokevirtual 97, 3) := dk_182 0 97 (dk_at dksX3_deals_2 21 rfl rfl)
theorem dX3_deals_71 : decode cX3_deals 71 = .ok (.ifCond .eq 22, 3) := dk_153 0 22 (dk_at dksX3_deals_3 0 rfl rfl)
theorem dX3_deals_74 : decode cX3_deals 74 = .ok (.aload_n 0, 1) := dk_42 (dk_at dksX3_deals_3 3 rfl rfl)
theorem dX3_deals_75 : decode cX3_deals 75 = .ok (.iload_n 1, 1) := dk_27 (dk_at dksX3_deals_3 4 rfl rfl)
theorem dX3_deals_76 : decode cX3_deals 76 = .ok (.iload 6, 2) := dk_21 6 (dk_at dksX3_deals_3 5 rfl rfl)
theorem dX3_deals_78 : decode cX3_deals 78 = .ok (.aload_n 0, 1) := dk_42 (dk_at dksX3_deals_3 7 rfl rfl)
theorem dX3_deals_79 : decode cX3_deals 79 = .ok (.iload_n 3, 1) := dk_29 (dk_at dksX3_deals_3 8 rfl rfl)
theorem dX3_deals_80 : decode cX3_deals 80 = .ok (.iload 6, 2) := dk_21 6 (dk_at dksX3_deals_3 9 rfl rfl)
theorem dX3_deals_82 : decode cX3_deals 82 = .ok (.invokevirtual 100, 3) := dk_182 0 100 (dk_at dksX3_deals_3 11 rfl rfl)
theorem dX3_deals_85 : decode cX3_deals 85 = .ok (.iload 4, 2) := dk_21 4 (dk_at dksX3_deals_3 14 rfl rfl)
theorem dX3_deals_87 : decode cX3_deals 87 = .ok (.invokevirtual 103, 3) := dk_182 0 103 (dk_at dksX3_deals_3 16 rfl rfl)
theorem dX3_deals_90 : decode cX3_deals 90 = .ok (.iinc 5 1, 3) := dk_132 5 1 (dk_at dksX3_deals_3 19 rfl rfl)
theorem dX3_deals_93 : decode cX3_deals 93 = .ok (.iinc 6 1, 3) := dk_132 6 1 (dk_at dksX3_deals_4 0 rfl rfl)
theorem dX3_deals_96 : decode cX3_deals 96 = .ok (.goto (-57), 3) := dk_167 255 199 (dk_at dksX3_deals_4 3 rfl rfl)
theorem dX3_deals_99 : decode cX3_deals 99 = .ok (.iconst 0, 1) := dk_3 (dk_at dksX3_deals_4 6 rfl rfl)
theorem dX3_deals_100 : decode cX3_deals 100 = .ok (.istore 6, 2) := dk_54 6 (dk_at dksX3_deals_4 7 rfl rfl)
theorem dX3_deals_102 : decode cX3_deals 102 = .ok (.iload 6, 2) := dk_21 6 (dk_at dksX3_deals_4 9 rfl rfl)
theorem dX3_deals_104 : decode cX3_deals 104 = .ok (.bipush 8, 2) := dk_16 8 (dk_at dksX3_deals_4 11 rfl rfl)
theorem dX3_deals_106 : decode cX3_deals 106 = .ok (.if_icmp .ge 42, 3) := dk_162 0 42 (dk_at dksX3_deals_4 13 rfl rfl)
theorem dX3_deals_109 : decode cX3_deals 109 = .ok (.aload_n 0, 1) := dk_42 (dk_at dksX3_deals_4 16 rfl rfl)
theorem dX3_deals_110 : decode cX3_deals 110 = .ok (.iload_n 1, 1) := dk_27 (dk_at dksX3_deals_4 17 rfl rfl)
theorem dX3_deals_111 : decode cX3_deals 111 = .ok (.iconst 3, 1) := dk_6 (dk_at dksX3_deals_4 18 rfl rfl)
theorem dX3_deals_112 : decode cX3_deals 112 = .ok (.iload 6, 2) := dk_21 6 (dk_at dksX3_deals_4 19 rfl rfl)
theorem dX3_deals_114 : decode cX3_deals 114 = .ok (.iadd, 1) := dk_96 (dk_at dksX3_deals_4 21 rfl rfl)
theorem dX3_deals_115 : decode cX3_deals 115 = .ok (.iload 6, 2) := dk_21 6 (dk_at dksX3_deals_4 22 rfl rfl)
theorem dX3_deals_117 : decode cX3_deals 117 = .ok (.iload_n 3, 1) := dk_29 (dk_at dksX3_deals_5 0 rfl rfl)
theorem dX3_deals_118 : decode cX3_deals 118 = .ok (.if_icmp .ge 20, 3) := dk_162 0 20 (dk_at dksX3_deals_5 1 rfl rfl)
theorem dX3_deals_121 : decode cX3_deals 121 = .ok (.iconst 4, 1) := dk_7 (dk_at dksX3_deals_5 4 rfl rfl)
theorem dX3_deals_122 : decode cX3_deals 122 = .ok (.aload_n 0, 1) := dk_42 (dk_at dksX3_deals_5 5 rfl rfl)
theorem dX3_deals_123 : decode cX3_deals 123 = .ok (.getfield 16, 3) := dk_180 0 16 (dk_at dksX3_deals_5 6 rfl rfl)
theorem dX3_deals_126 : decode cX3_deals 126 = .ok (.iload 6, 2) := dk_21 6 (dk_at dksX3_deals_5 9 rfl rfl)
theorem dX3_deals_128 : decode cX3_deals 128 = .ok (.iaload, 1) := dk_46 (dk_at dksX3_deals_5 11 rfl rfl)
theorem dX3_deals_129 : decode cX3_deals 129 = .ok (.sipush 2039, 3) := dk_17 7 247 (dk_at dksX3_deals_5 12 rfl rfl)
theorem dX3_deals_132 : decode cX3_deals 132 = .ok (.invokestatic 65, 3) := dk_184 0 65 (dk_at dksX3_deals_5 15 rfl rfl)
theorem dX3_deals_135 : decode cX3_deals 135 = .ok (.goto 4, 3) := dk_167 0 4 (dk_at dksX3_deals_5 18 rfl rfl)
theorem dX3_deals_138 : decode cX3_deals 138 = .ok (.iconst 0, 1) := dk_3 (dk_at dksX3_deals_5 21 rfl rfl)
theorem dX3_deals_139 : decode cX3_deals 139 = .ok (.invokevirtual 53, 3) := dk_182 0 53 (dk_at dksX3_deals_6 0 rfl rfl)
theorem dX3_deals_142 : decode cX3_deals 142 = .ok (.iinc 6 1, 3) := dk_132 6 1 (dk_at dksX3_deals_6 3 rfl rfl)
theorem dX3_deals_145 : decode cX3_deals 145 = .ok (.goto (-43), 3) := dk_167 255 213 (dk_at dksX3_deals_6 6 rfl rfl)
theorem dX3_deals_148 : decode cX3_deals 148 = .ok (.aload_n 0, 1) := dk_42 (dk_at dksX3_deals_6 9 rfl rfl)
theorem dX3_deals_149 : decode cX3_deals 149 = .ok (.iload_n 1, 1) := dk_27 (dk_at dksX3_deals_6 10 rfl rfl)
theorem dX3_deals_150 : decode cX3_deals 150 = .ok (.iconst 0, 1) := dk_3 (dk_at dksX3_deals_6 11 rfl rfl)
theorem dX3_deals_151 : decode cX3_deals 151 = .ok (.iconst 1, 1) := dk_4 (dk_at dksX3_deals_6 12 rfl rfl)
theorem dX3_deals_152 : decode cX3_deals 152 = .ok (.invokevirtual 53, 3) := dk_182 0 53 (dk_at dksX3_deals_6 13 rfl rfl)
theorem dX3_deals_155 : decode cX3_deals 155 = .ok (.aload_n 0, 1) := dk_42 (dk_at dksX3_deals_6 16 rfl rfl)
theorem dX3_deals_156 : decode cX3_deals 156 = .ok (.iload_n 1, 1) := dk_27 (dk_at dksX3_deals_6 17 rfl rfl)
theorem dX3_deals_157 : decode cX3_deals 157 = .ok (.iconst 1, 1) := dk_4 (dk_at dksX3_deals_6 18 rfl rfl)
theorem dX3_deals_158 : decode cX3_deals 158 = .ok (.iload_n 3, 1) := dk_29 (dk_at dksX3_deals_6 19 rfl rfl)
theorem dX3_deals_159 : decode cX3_deals 159 = .ok (.invokevirtual 53, 3) := dk_182 0 53 (dk_at dksX3_deals_6 20 rfl rfl)
theorem dX3_deals_162 : decode cX3_deals 162 = .ok (.aload_n 0, 1) := dk_42 (dk_at dksX3_deals_6 23 rfl rfl)
theorem dX3_deals_163 : decode cX3_deals 163 = .ok (.iload_n 1, 1) := dk_27 (dk_at dksX3_deals_7 0 rfl rfl)
theorem dX3_deals_164 : decode cX3_deals 164 = .ok (.iconst 2, 1) := dk_5 (dk_at dksX3_deals_7 1 rfl rfl)
theorem dX3_deals_165 : decode cX3_deals 165 = .ok (.iload 4, 2) := dk_21 4 (dk_at dksX3_deals_7 2 rfl rfl)
theorem dX3_deals_167 : decode cX3_deals 167 = .ok (.invokevirtual 53, 3) := dk_182 0 53 (dk_at dksX3_deals_7 4 rfl rfl)
theorem dX3_deals_170 : decode cX3_deals 170 = .ok (.iload 5, 2) := dk_21 5 (dk_at dksX3_deals_7 7 rfl rfl)
theorem dX3_deals_172 : decode cX3_deals 172 = .ok (.ireturn, 1) := dk_172 (dk_at dksX3_deals_7 9 rfl rfl)
abbrev cX3_removes : ByteArray := prog_27_method_14_code
def yX3_removes : MethodName := ⟨RX3, "removes", "(II)V"⟩
def dkwX3_removes_1 : List UInt8 := [132, 3, 1, 167, 255, 232, 177]
abbrev dktX3_removes_1 : List UInt8 := dkwX3_removes_1 ++ []
def dkwX3_removes_0 : List UInt8 := [3, 62, 29, 6, 162, 0, 25, 42, 27, 16, 52, 6, 28, 4, 100, 104, 96, 29, 96, 3, 182, 0, 53]
abbrev dktX3_removes_0 : List UInt8 := dkwX3_removes_0 ++ dktX3_removes_1
theorem dksX3_removes_0 : cX3_removes.data.toList.drop 0 = dktX3_removes_0 := by decide +kernel
theorem dksX3_removes_1 : cX3_removes.data.toList.drop 23 = dktX3_removes_1 := dk_seg dksX3_removes_0 23 rfl rfl
theorem dX3_removes_0 : decode cX3_removes 0 = .ok (.iconst 0, 1) := dk_3 (dk_at dksX3_removes_0 0 rfl rfl)
theorem dX3_removes_1 : decode cX3_removes 1 = .ok (.istore_n 3, 1) := dk_62 (dk_at dksX3_removes_0 1 rfl rfl)
theorem dX3_removes_2 : decode cX3_removes 2 = .ok (.iload_n 3, 1) := dk_29 (dk_at dksX3_removes_0 2 rfl rfl)
theorem dX3_removes_3 : decode cX3_removes 3 = .ok (.iconst 3, 1) := dk_6 (dk_at dksX3_removes_0 3 rfl rfl)
theorem dX3_removes_4 : decode cX3_removes 4 = .ok (.if_icmp .ge 25, 3) := dk_162 0 25 (dk_at dksX3_removes_0 4 rfl rfl)
theorem dX3_removes_7 : decode cX3_removes 7 = .ok (.aload_n 0, 1) := dk_42 (dk_at dksX3_removes_0 7 rfl rfl)
theorem dX3_removes_8 : decode cX3_removes 8 = .ok (.iload_n 1, 1) := dk_27 (dk_at dksX3_removes_0 8 rfl rfl)
theorem dX3_removes_9 : decode cX3_removes 9 = .ok (.bipush 52, 2) := dk_16 52 (dk_at dksX3_removes_0 9 rfl rfl)
theorem dX3_removes_11 : decode cX3_removes 11 = .ok (.iconst 3, 1) := dk_6 (dk_at dksX3_removes_0 11 rfl rfl)
theorem dX3_removes_12 : decode cX3_removes 12 = .ok (.iload_n 2, 1) := dk_28 (dk_at dksX3_removes_0 12 rfl rfl)
theorem dX3_removes_13 : decode cX3_removes 13 = .ok (.iconst 1, 1) := dk_4 (dk_at dksX3_removes_0 13 rfl rfl)
theorem dX3_removes_14 : decode cX3_removes 14 = .ok (.isub, 1) := dk_100 (dk_at dksX3_removes_0 14 rfl rfl)
theorem dX3_removes_15 : decode cX3_removes 15 = .ok (.imul, 1) := dk_104 (dk_at dksX3_removes_0 15 rfl rfl)
theorem dX3_removes_16 : decode cX3_removes 16 = .ok (.iadd, 1) := dk_96 (dk_at dksX3_removes_0 16 rfl rfl)
theorem dX3_removes_17 : decode cX3_removes 17 = .ok (.iload_n 3, 1) := dk_29 (dk_at dksX3_removes_0 17 rfl rfl)
theorem dX3_removes_18 : decode cX3_removes 18 = .ok (.iadd, 1) := dk_96 (dk_at dksX3_removes_0 18 rfl rfl)
theorem dX3_removes_19 : decode cX3_removes 19 = .ok (.iconst 0, 1) := dk_3 (dk_at dksX3_removes_0 19 rfl rfl)
theorem dX3_removes_20 : decode cX3_removes 20 = .ok (.invokevirtual 53, 3) := dk_182 0 53 (dk_at dksX3_removes_0 20 rfl rfl)
theorem dX3_removes_23 : decode cX3_removes 23 = .ok (.iinc 3 1, 3) := dk_132 3 1 (dk_at dksX3_removes_1 0 rfl rfl)
theorem dX3_removes_26 : decode cX3_removes 26 = .ok (.goto (-24), 3) := dk_167 255 232 (dk_at dksX3_removes_1 3 rfl rfl)
theorem dX3_removes_29 : decode cX3_removes 29 = .ok (.return_, 1) := dk_177 (dk_at dksX3_removes_1 6 rfl rfl)
abbrev cX3_owner : ByteArray := prog_27_method_16_code
def yX3_owner : MethodName := ⟨RX3, "owner", "(I)I"⟩
def dkwX3_owner_0 : List UInt8 := [26, 4, 100, 6, 108, 172]
abbrev dktX3_owner_0 : List UInt8 := dkwX3_owner_0 ++ []
theorem dksX3_owner_0 : cX3_owner.data.toList.drop 0 = dktX3_owner_0 := by decide +kernel
theorem dX3_owner_0 : decode cX3_owner 0 = .ok (.iload_n 0, 1) := dk_26 (dk_at dksX3_owner_0 0 rfl rfl)
theorem dX3_owner_1 : decode cX3_owner 1 = .ok (.iconst 1, 1) := dk_4 (dk_at dksX3_owner_0 1 rfl rfl)
theorem dX3_owner_2 : decode cX3_owner 2 = .ok (.isub, 1) := dk_100 (dk_at dksX3_owner_0 2 rfl rfl)
theorem dX3_owner_3 : decode cX3_owner 3 = .ok (.iconst 3, 1) := dk_6 (dk_at dksX3_owner_0 3 rfl rfl)
theorem dX3_owner_4 : decode cX3_owner 4 = .ok (.idiv, 1) := dk_108 (dk_at dksX3_owner_0 4 rfl rfl)
theorem dX3_owner_5 : decode cX3_owner 5 = .ok (.ireturn, 1) := dk_172 (dk_at dksX3_owner_0 5 rfl rfl)
abbrev cX3_isUsed : ByteArray := prog_27_method_17_code
def yX3_isUsed : MethodName := ⟨RX3, "isUsed", "(I)Z"⟩
def dkwX3_isUsed_1 : List UInt8 := [172]
abbrev dktX3_isUsed_1 : List UInt8 := dkwX3_isUsed_1 ++ []
def dkwX3_isUsed_0 : List UInt8 := [27, 4, 100, 6, 112, 42, 180, 0, 7, 4, 27, 184, 0, 61, 96, 46, 162, 0, 7, 4, 167, 0, 4, 3]
abbrev dktX3_isUsed_0 : List UInt8 := dkwX3_isUsed_0 ++ dktX3_isUsed_1
theorem dksX3_isUsed_0 : cX3_isUsed.data.toList.drop 0 = dktX3_isUsed_0 := by decide +kernel
theorem dksX3_isUsed_1 : cX3_isUsed.data.toList.drop 24 = dktX3_isUsed_1 := dk_seg dksX3_isUsed_0 24 rfl rfl
theorem dX3_isUsed_0 : decode cX3_isUsed 0 = .ok (.iload_n 1, 1) := dk_27 (dk_at dksX3_isUsed_0 0 rfl rfl)
theorem dX3_isUsed_1 : decode cX3_isUsed 1 = .ok (.iconst 1, 1) := dk_4 (dk_at dksX3_isUsed_0 1 rfl rfl)
theorem dX3_isUsed_2 : decode cX3_isUsed 2 = .ok (.isub, 1) := dk_100 (dk_at dksX3_isUsed_0 2 rfl rfl)
theorem dX3_isUsed_3 : decode cX3_isUsed 3 = .ok (.iconst 3, 1) := dk_6 (dk_at dksX3_isUsed_0 3 rfl rfl)
theorem dX3_isUsed_4 : decode cX3_isUsed 4 = .ok (.irem, 1) := dk_112 (dk_at dksX3_isUsed_0 4 rfl rfl)
theorem dX3_isUsed_5 : decode cX3_isUsed 5 = .ok (.aload_n 0, 1) := dk_42 (dk_at dksX3_isUsed_0 5 rfl rfl)
theorem dX3_isUsed_6 : decode cX3_isUsed 6 = .ok (.getfield 7, 3) := dk_180 0 7 (dk_at dksX3_isUsed_0 6 rfl rfl)
theorem dX3_isUsed_9 : decode cX3_isUsed 9 = .ok (.iconst 1, 1) := dk_4 (dk_at dksX3_isUsed_0 9 rfl rfl)
theorem dX3_isUsed_10 : decode cX3_isUsed 10 = .ok (.iload_n 1, 1) := dk_27 (dk_at dksX3_isUsed_0 10 rfl rfl)
theorem dX3_isUsed_11 : decode cX3_isUsed 11 = .ok (.invokestatic 61, 3) := dk_184 0 61 (dk_at dksX3_isUsed_0 11 rfl rfl)
theorem dX3_isUsed_14 : decode cX3_isUsed 14 = .ok (.iadd, 1) := dk_96 (dk_at dksX3_isUsed_0 14 rfl rfl)
theorem dX3_isUsed_15 : decode cX3_isUsed 15 = .ok (.iaload, 1) := dk_46 (dk_at dksX3_isUsed_0 15 rfl rfl)
theorem dX3_isUsed_16 : decode cX3_isUsed 16 = .ok (.if_icmp .ge 7, 3) := dk_162 0 7 (dk_at dksX3_isUsed_0 16 rfl rfl)
theorem dX3_isUsed_19 : decode cX3_isUsed 19 = .ok (.iconst 1, 1) := dk_4 (dk_at dksX3_isUsed_0 19 rfl rfl)
theorem dX3_isUsed_20 : decode cX3_isUsed 20 = .ok (.goto 4, 3) := dk_167 0 4 (dk_at dksX3_isUsed_0 20 rfl rfl)
theorem dX3_isUsed_23 : decode cX3_isUsed 23 = .ok (.iconst 0, 1) := dk_3 (dk_at dksX3_isUsed_0 23 rfl rfl)
theorem dX3_isUsed_24 : decode cX3_isUsed 24 = .ok (.ireturn, 1) := dk_172 (dk_at dksX3_isUsed_1 0 rfl rfl)
abbrev cX3_polynomial : ByteArray := prog_27_method_30_code
def yX3_polynomial : MethodName := ⟨RX3, "polynomial", "(II)I"⟩
def dkwX3_polynomial_1 : List UInt8 := [17, 3, 251, 112, 62, 132, 4, 255, 167, 255, 232, 29, 172]
abbrev dktX3_polynomial_1 : List UInt8 := dkwX3_polynomial_1 ++ []
def dkwX3_polynomial_0 : List UInt8 := [3, 62, 27, 4, 100, 54, 4, 21, 4, 155, 0, 25, 29, 28, 104, 42, 180, 0, 16, 21, 4, 46, 96]
abbrev dktX3_polynomial_0 : List UInt8 := dkwX3_polynomial_0 ++ dktX3_polynomial_1
theorem dksX3_polynomial_0 : cX3_polynomial.data.toList.drop 0 = dktX3_polynomial_0 := by decide +kernel
theorem dksX3_polynomial_1 : cX3_polynomial.data.toList.drop 23 = dktX3_polynomial_1 := dk_seg dksX3_polynomial_0 23 rfl rfl
theorem dX3_polynomial_0 : decode cX3_polynomial 0 = .ok (.iconst 0, 1) := dk_3 (dk_at dksX3_polynomial_0 0 rfl rfl)
theorem dX3_polynomial_1 : decode cX3_polynomial 1 = .ok (.istore_n 3, 1) := dk_62 (dk_at dksX3_polynomial_0 1 rfl rfl)
theorem dX3_polynomial_2 : decode cX3_polynomial 2 = .ok (.iload_n 1, 1) := dk_27 (dk_at dksX3_polynomial_0 2 rfl rfl)
theorem dX3_polynomial_3 : decode cX3_polynomial 3 = .ok (.iconst 1, 1) := dk_4 (dk_at dksX3_polynomial_0 3 rfl rfl)
theorem dX3_polynomial_4 : decode cX3_polynomial 4 = .ok (.isub, 1) := dk_100 (dk_at dksX3_polynomial_0 4 rfl rfl)
theorem dX3_polynomial_5 : decode cX3_polynomial 5 = .ok (.istore 4, 2) := dk_54 4 (dk_at dksX3_polynomial_0 5 rfl rfl)
theorem dX3_polynomial_7 : decode cX3_polynomial 7 = .ok (.iload 4, 2) := dk_21 4 (dk_at dksX3_polynomial_0 7 rfl rfl)
theorem dX3_polynomial_9 : decode cX3_polynomial 9 = .ok (.ifCond .lt 25, 3) := dk_155 0 25 (dk_at dksX3_polynomial_0 9 rfl rfl)
theorem dX3_polynomial_12 : decode cX3_polynomial 12 = .ok (.iload_n 3, 1) := dk_29 (dk_at dksX3_polynomial_0 12 rfl rfl)
theorem dX3_polynomial_13 : decode cX3_polynomial 13 = .ok (.iload_n 2, 1) := dk_28 (dk_at dksX3_polynomial_0 13 rfl rfl)
theorem dX3_polynomial_14 : decode cX3_polynomial 14 = .ok (.imul, 1) := dk_104 (dk_at dksX3_polynomial_0 14 rfl rfl)
theorem dX3_polynomial_15 : decode cX3_polynomial 15 = .ok (.aload_n 0, 1) := dk_42 (dk_at dksX3_polynomial_0 15 rfl rfl)
theorem dX3_polynomial_16 : decode cX3_polynomial 16 = .ok (.getfield 16, 3) := dk_180 0 16 (dk_at dksX3_polynomial_0 16 rfl rfl)
theorem dX3_polynomial_19 : decode cX3_polynomial 19 = .ok (.iload 4, 2) := dk_21 4 (dk_at dksX3_polynomial_0 19 rfl rfl)
theorem dX3_polynomial_21 : decode cX3_polynomial 21 = .ok (.iaload, 1) := dk_46 (dk_at dksX3_polynomial_0 21 rfl rfl)
theorem dX3_polynomial_22 : decode cX3_polynomial 22 = .ok (.iadd, 1) := dk_96 (dk_at dksX3_polynomial_0 22 rfl rfl)
theorem dX3_polynomial_23 : decode cX3_polynomial 23 = .ok (.sipush 1019, 3) := dk_17 3 251 (dk_at dksX3_polynomial_1 0 rfl rfl)
theorem dX3_polynomial_26 : decode cX3_polynomial 26 = .ok (.irem, 1) := dk_112 (dk_at dksX3_polynomial_1 3 rfl rfl)
theorem dX3_polynomial_27 : decode cX3_polynomial 27 = .ok (.istore_n 3, 1) := dk_62 (dk_at dksX3_polynomial_1 4 rfl rfl)
theorem dX3_polynomial_28 : decode cX3_polynomial 28 = .ok (.iinc 4 (-1), 3) := dk_132 4 255 (dk_at dksX3_polynomial_1 5 rfl rfl)
theorem dX3_polynomial_31 : decode cX3_polynomial 31 = .ok (.goto (-24), 3) := dk_167 255 232 (dk_at dksX3_polynomial_1 8 rfl rfl)
theorem dX3_polynomial_34 : decode cX3_polynomial 34 = .ok (.iload_n 3, 1) := dk_29 (dk_at dksX3_polynomial_1 11 rfl rfl)
theorem dX3_polynomial_35 : decode cX3_polynomial 35 = .ok (.ireturn, 1) := dk_172 (dk_at dksX3_polynomial_1 12 rfl rfl)
abbrev cX3_setsShare : ByteArray := prog_27_method_13_code
def yX3_setsShare : MethodName := ⟨RX3, "setsShare", "(IIII)V"⟩
def dkwX3_setsShare_1 : List UInt8 := [4, 96, 29, 182, 0, 53, 42, 27, 16, 52, 6, 28, 4, 100, 104, 96, 5, 96, 21, 4, 182, 0, 53, 177]
abbrev dktX3_setsShare_1 : List UInt8 := dkwX3_setsShare_1 ++ []
def dkwX3_setsShare_0 : List UInt8 := [42, 27, 16, 52, 6, 28, 4, 100, 104, 96, 4, 182, 0, 53, 42, 27, 16, 52, 6, 28, 4, 100, 104, 96]
abbrev dktX3_setsShare_0 : List UInt8 := dkwX3_setsShare_0 ++ dktX3_setsShare_1
theorem dksX3_setsShare_0 : cX3_setsShare.data.toList.drop 0 = dktX3_setsShare_0 := by decide +kernel
theorem dksX3_setsShare_1 : cX3_setsShare.data.toList.drop 24 = dktX3_setsShare_1 := dk_seg dksX3_setsShare_0 24 rfl rfl
theorem dX3_setsShare_0 : decode cX3_setsShare 0 = .ok (.aload_n 0, 1) := dk_42 (dk_at dksX3_setsShare_0 0 rfl rfl)
theorem dX3_setsShare_1 : decode cX3_setsShare 1 = .ok (.iload_n 1, 1) := dk_27 (dk_at dksX3_setsShare_0 1 rfl rfl)
theorem dX3_setsShare_2 : decode cX3_setsShare 2 = .ok (.bipush 52, 2) := dk_16 52 (dk_at dksX3_setsShare_0 2 rfl rfl)
theorem dX3_setsShare_4 : decode cX3_setsShare 4 = .ok (.iconst 3, 1) := dk_6 (dk_at dksX3_setsShare_0 4 rfl rfl)
theorem dX3_setsShare_5 : decode cX3_setsShare 5 = .ok (.iload_n 2, 1) := dk_28 (dk_at dksX3_setsShare_0 5 rfl rfl)
theorem dX3_setsShare_6 : decode cX3_setsShare 6 = .ok (.iconst 1, 1) := dk_4 (dk_at dksX3_setsShare_0 6 rfl rfl)
theorem dX3_setsShare_7 : decode cX3_setsShare 7 = .ok (.isub, 1) := dk_100 (dk_at dksX3_setsShare_0 7 rfl rfl)
theorem dX3_setsShare_8 : decode cX3_setsShare 8 = .ok (.imul, 1) := dk_104 (dk_at dksX3_setsShare_0 8 rfl rfl)
theorem dX3_setsShare_9 : decode cX3_setsShare 9 = .ok (.iadd, 1) := dk_96 (dk_at dksX3_setsShare_0 9 rfl rfl)
theorem dX3_setsShare_10 : decode cX3_setsShare 10 = .ok (.iconst 1, 1) := dk_4 (dk_at dksX3_setsShare_0 10 rfl rfl)
theorem dX3_setsShare_11 : decode cX3_setsShare 11 = .ok (.invokevirtual 53, 3) := dk_182 0 53 (dk_at dksX3_setsShare_0 11 rfl rfl)
theorem dX3_setsShare_14 : decode cX3_setsShare 14 = .ok (.aload_n 0, 1) := dk_42 (dk_at dksX3_setsShare_0 14 rfl rfl)
theorem dX3_setsShare_15 : decode cX3_setsShare 15 = .ok (.iload_n 1, 1) := dk_27 (dk_at dksX3_setsShare_0 15 rfl rfl)
theorem dX3_setsShare_16 : decode cX3_setsShare 16 = .ok (.bipush 52, 2) := dk_16 52 (dk_at dksX3_setsShare_0 16 rfl rfl)
theorem dX3_setsShare_18 : decode cX3_setsShare 18 = .ok (.iconst 3, 1) := dk_6 (dk_at dksX3_setsShare_0 18 rfl rfl)
theorem dX3_setsShare_19 : decode cX3_setsShare 19 = .ok (.iload_n 2, 1) := dk_28 (dk_at dksX3_setsShare_0 19 rfl rfl)
theorem dX3_setsShare_20 : decode cX3_setsShare 20 = .ok (.iconst 1, 1) := dk_4 (dk_at dksX3_setsShare_0 20 rfl rfl)
theorem dX3_setsShare_21 : decode cX3_setsShare 21 = .ok (.isub, 1) := dk_100 (dk_at dksX3_setsShare_0 21 rfl rfl)
theorem dX3_setsShare_22 : decode cX3_setsShare 22 = .ok (.imul, 1) := dk_104 (dk_at dksX3_setsShare_0 22 rfl rfl)
theorem dX3_setsShare_23 : decode cX3_setsShare 23 = .ok (.iadd, 1) := dk_96 (dk_at dksX3_setsShare_0 23 rfl rfl)
theorem dX3_setsShare_24 : decode cX3_setsShare 24 = .ok (.iconst 1, 1) := dk_4 (dk_at dksX3_setsShare_1 0 rfl rfl)
theorem dX3_setsShare_25 : decode cX3_setsShare 25 = .ok (.iadd, 1) := dk_96 (dk_at dksX3_setsShare_1 1 rfl rfl)
theorem dX3_setsShare_26 : decode cX3_setsShare 26 = .ok (.iload_n 3, 1) := dk_29 (dk_at dksX3_setsShare_1 2 rfl rfl)
theorem dX3_setsShare_27 : decode cX3_setsShare 27 = .ok (.invokevirtual 53, 3) := dk_182 0 53 (dk_at dksX3_setsShare_1 3 rfl rfl)
theorem dX3_setsShare_30 : decode cX3_setsShare 30 = .ok (.aload_n 0, 1) := dk_42 (dk_at dksX3_setsShare_1 6 rfl rfl)
theorem dX3_setsShare_31 : decode cX3_setsShare 31 = .ok (.iload_n 1, 1) := dk_27 (dk_at dksX3_setsShare_1 7 rfl rfl)
theorem dX3_setsShare_32 : decode cX3_setsShare 32 = .ok (.bipush 52, 2) := dk_16 52 (dk_at dksX3_setsShare_1 8 rfl rfl)
theorem dX3_setsShare_34 : decode cX3_setsShare 34 = .ok (.iconst 3, 1) := dk_6 (dk_at dksX3_setsShare_1 10 rfl rfl)
theorem dX3_setsShare_35 : decode cX3_setsShare 35 = .ok (.iload_n 2, 1) := dk_28 (dk_at dksX3_setsShare_1 11 rfl rfl)
theorem dX3_setsShare_36 : decode cX3_setsShare 36 = .ok (.iconst 1, 1) := dk_4 (dk_at dksX3_setsShare_1 12 rfl rfl)
theorem dX3_setsShare_37 : decode cX3_setsShare 37 = .ok (.isub, 1) := dk_100 (dk_at dksX3_setsShare_1 13 rfl rfl)
theorem dX3_setsShare_38 : decode cX3_setsShare 38 = .ok (.imul, 1) := dk_104 (dk_at dksX3_setsShare_1 14 rfl rfl)
theorem dX3_setsShare_39 : decode cX3_setsShare 39 = .ok (.iadd, 1) := dk_96 (dk_at dksX3_setsShare_1 15 rfl rfl)
theorem dX3_setsShare_40 : decode cX3_setsShare 40 = .ok (.iconst 2, 1) := dk_5 (dk_at dksX3_setsShare_1 16 rfl rfl)
theorem dX3_setsShare_41 : decode cX3_setsShare 41 = .ok (.iadd, 1) := dk_96 (dk_at dksX3_setsShare_1 17 rfl rfl)
theorem dX3_setsShare_42 : decode cX3_setsShare 42 = .ok (.iload 4, 2) := dk_21 4 (dk_at dksX3_setsShare_1 18 rfl rfl)
theorem dX3_setsShare_44 : decode cX3_setsShare 44 = .ok (.invokevirtual 53, 3) := dk_182 0 53 (dk_at dksX3_setsShare_1 20 rfl rfl)
theorem dX3_setsShare_47 : decode cX3_setsShare 47 = .ok (.return_, 1) := dk_177 (dk_at dksX3_setsShare_1 23 rfl rfl)
abbrev cX3_happens : ByteArray := prog_27_method_19_code
def yX3_happens : MethodName := ⟨RX3, "happens", "(I)V"⟩
def dkwX3_happens_2 : List UInt8 := [46, 42, 180, 0, 7, 16, 17, 46, 16, 20, 162, 0, 7, 4, 167, 0, 4, 3, 96, 79, 177]
abbrev dktX3_happens_2 : List UInt8 := dkwX3_happens_2 ++ []
def dkwX3_happens_1 : List UInt8 := [100, 46, 79, 132, 2, 255, 167, 255, 229, 42, 180, 0, 7, 16, 18, 27, 79, 42, 180, 0, 7, 16, 17, 92]
abbrev dktX3_happens_1 : List UInt8 := dkwX3_happens_1 ++ dktX3_happens_2
def dkwX3_happens_0 : List UInt8 := [16, 19, 61, 28, 158, 0, 29, 42, 180, 0, 7, 16, 18, 28, 96, 42, 180, 0, 7, 16, 18, 28, 96, 4]
abbrev dktX3_happens_0 : List UInt8 := dkwX3_happens_0 ++ dktX3_happens_1
theorem dksX3_happens_0 : cX3_happens.data.toList.drop 0 = dktX3_happens_0 := by decide +kernel
theorem dksX3_happens_1 : cX3_happens.data.toList.drop 24 = dktX3_happens_1 := dk_seg dksX3_happens_0 24 rfl rfl
theorem dksX3_happens_2 : cX3_happens.data.toList.drop 48 = dktX3_happens_2 := dk_seg dksX3_happens_1 24 rfl rfl
theorem dX3_happens_0 : decode cX3_happens 0 = .ok (.bipush 19, 2) := dk_16 19 (dk_at dksX3_happens_0 0 rfl rfl)
theorem dX3_happens_2 : decode cX3_happens 2 = .ok (.istore_n 2, 1) := dk_61 (dk_at dksX3_happens_0 2 rfl rfl)
theorem dX3_happens_3 : decode cX3_happens 3 = .ok (.iload_n 2, 1) := dk_28 (dk_at dksX3_happens_0 3 rfl rfl)
theorem dX3_happens_4 : decode cX3_happens 4 = .ok (.ifCond .le 29, 3) := dk_158 0 29 (dk_at dksX3_happens_0 4 rfl rfl)
theorem dX3_happens_7 : decode cX3_happens 7 = .ok (.aload_n 0, 1) := dk_42 (dk_at dksX3_happens_0 7 rfl rfl)
theorem dX3_happens_8 : decode cX3_happens 8 = .ok (.getfield 7, 3) := dk_180 0 7 (dk_at dksX3_happens_0 8 rfl rfl)
theorem dX3_happens_11 : decode cX3_happens 11 = .ok (.bipush 18, 2) := dk_16 18 (dk_at dksX3_happens_0 11 rfl rfl)
theorem dX3_happens_13 : decode cX3_happens 13 = .ok (.iload_n 2, 1) := dk_28 (dk_at dksX3_happens_0 13 rfl rfl)
theorem dX3_happens_14 : decode cX3_happens 14 = .ok (.iadd, 1) := dk_96 (dk_at dksX3_happens_0 14 rfl rfl)
theorem dX3_happens_15 : decode cX3_happens 15 = .ok (.aload_n 0, 1) := dk_42 (dk_at dksX3_happens_0 15 rfl rfl)
theorem dX3_happens_16 : decode cX3_happens 16 = .ok (.getfield 7, 3) := dk_180 0 7 (dk_at dksX3_happens_0 16 rfl rfl)
theorem dX3_happens_19 : decode cX3_happens 19 = .ok (.bipush 18, 2) := dk_16 18 (dk_at dksX3_happens_0 19 rfl rfl)
theorem dX3_happens_21 : decode cX3_happens 21 = .ok (.iload_n 2, 1) := dk_28 (dk_at dksX3_happens_0 21 rfl rfl)
theorem dX3_happens_22 : decode cX3_happens 22 = .ok (.iadd, 1) := dk_96 (dk_at dksX3_happens_0 22 rfl rfl)
theorem dX3_happens_23 : decode cX3_happens 23 = .ok (.iconst 1, 1) := dk_4 (dk_at dksX3_happens_0 23 rfl rfl)
theorem dX3_happens_24 : decode cX3_happens 24 = .ok (.isub, 1) := dk_100 (dk_at dksX3_happens_1 0 rfl rfl)
theorem dX3_happens_25 : decode cX3_happens 25 = .ok (.iaload, 1) := dk_46 (dk_at dksX3_happens_1 1 rfl rfl)
theorem dX3_happens_26 : decode cX3_happens 26 = .ok (.iastore, 1) := dk_79 (dk_at dksX3_happens_1 2 rfl rfl)
theorem dX3_happens_27 : decode cX3_happens 27 = .ok (.iinc 2 (-1), 3) := dk_132 2 255 (dk_at dksX3_happens_1 3 rfl rfl)
theorem dX3_happens_30 : decode cX3_happens 30 = .ok (.goto (-27), 3) := dk_167 255 229 (dk_at dksX3_happens_1 6 rfl rfl)
theorem dX3_happens_33 : decode cX3_happens 33 = .ok (.aload_n 0, 1) := dk_42 (dk_at dksX3_happens_1 9 rfl rfl)
theorem dX3_happens_34 : decode cX3_happens 34 = .ok (.getfield 7, 3) := dk_180 0 7 (dk_at dksX3_happens_1 10 rfl rfl)
theorem dX3_happens_37 : decode cX3_happens 37 = .ok (.bipush 18, 2) := dk_16 18 (dk_at dksX3_happens_1 13 rfl rfl)
theorem dX3_happens_39 : decode cX3_happens 39 = .ok (.iload_n 1, 1) := dk_27 (dk_at dksX3_happens_1 15 rfl rfl)
theorem dX3_happens_40 : decode cX3_happens 40 = .ok (.iastore, 1) := dk_79 (dk_at dksX3_happens_1 16 rfl rfl)
theorem dX3_happens_41 : decode cX3_happens 41 = .ok (.aload_n 0, 1) := dk_42 (dk_at dksX3_happens_1 17 rfl rfl)
theorem dX3_happens_42 : decode cX3_happens 42 = .ok (.getfield 7, 3) := dk_180 0 7 (dk_at dksX3_happens_1 18 rfl rfl)
theorem dX3_happens_45 : decode cX3_happens 45 = .ok (.bipush 17, 2) := dk_16 17 (dk_at dksX3_happens_1 21 rfl rfl)
theorem dX3_happens_47 : decode cX3_happens 47 = .ok (.dup2, 1) := dk_92 (dk_at dksX3_happens_1 23 rfl rfl)
theorem dX3_happens_48 : decode cX3_happens 48 = .ok (.iaload, 1) := dk_46 (dk_at dksX3_happens_2 0 rfl rfl)
theorem dX3_happens_49 : decode cX3_happens 49 = .ok (.aload_n 0, 1) := dk_42 (dk_at dksX3_happens_2 1 rfl rfl)
theorem dX3_happens_50 : decode cX3_happens 50 = .ok (.getfield 7, 3) := dk_180 0 7 (dk_at dksX3_happens_2 2 rfl rfl)
theorem dX3_happens_53 : decode cX3_happens 53 = .ok (.bipush 17, 2) := dk_16 17 (dk_at dksX3_happens_2 5 rfl rfl)
theorem dX3_happens_55 : decode cX3_happens 55 = .ok (.iaload, 1) := dk_46 (dk_at dksX3_happens_2 7 rfl rfl)
theorem dX3_happens_56 : decode cX3_happens 56 = .ok (.bipush 20, 2) := dk_16 20 (dk_at dksX3_happens_2 8 rfl rfl)
theorem dX3_happens_58 : decode cX3_happens 58 = .ok (.if_icmp .ge 7, 3) := dk_162 0 7 (dk_at dksX3_happens_2 10 rfl rfl)
theorem dX3_happens_61 : decode cX3_happens 61 = .ok (.iconst 1, 1) := dk_4 (dk_at dksX3_happens_2 13 rfl rfl)
theorem dX3_happens_62 : decode cX3_happens 62 = .ok (.goto 4, 3) := dk_167 0 4 (dk_at dksX3_happens_2 14 rfl rfl)
theorem dX3_happens_65 : decode cX3_happens 65 = .ok (.iconst 0, 1) := dk_3 (dk_at dksX3_happens_2 17 rfl rfl)
theorem dX3_happens_66 : decode cX3_happens 66 = .ok (.iadd, 1) := dk_96 (dk_at dksX3_happens_2 18 rfl rfl)
theorem dX3_happens_67 : decode cX3_happens 67 = .ok (.iastore, 1) := dk_79 (dk_at dksX3_happens_2 19 rfl rfl)
theorem dX3_happens_68 : decode cX3_happens 68 = .ok (.return_, 1) := dk_177 (dk_at dksX3_happens_2 20 rfl rfl)
abbrev cX3_remove : ByteArray := prog_27_method_35_code
def yX3_remove : MethodName := ⟨RX3, "remove", "(I)I"⟩
def dkwX3_remove_2 : List UInt8 := [17, 0, 200, 27, 96, 182, 0, 117, 42, 29, 182, 0, 69, 172]
abbrev dktX3_remove_2 : List UInt8 := dkwX3_remove_2 ++ []
def dkwX3_remove_1 : List UInt8 := [54, 4, 21, 4, 16, 124, 162, 0, 17, 42, 27, 21, 4, 3, 182, 0, 53, 132, 4, 1, 167, 255, 238, 42]
abbrev dktX3_remove_1 : List UInt8 := dkwX3_remove_1 ++ dktX3_remove_2
def dkwX3_remove_0 : List UInt8 := [42, 27, 182, 0, 121, 61, 28, 153, 0, 9, 42, 28, 182, 0, 80, 172, 42, 27, 5, 182, 0, 49, 62, 3]
abbrev dktX3_remove_0 : List UInt8 := dkwX3_remove_0 ++ dktX3_remove_1
theorem dksX3_remove_0 : cX3_remove.data.toList.drop 0 = dktX3_remove_0 := by decide +kernel
theorem dksX3_remove_1 : cX3_remove.data.toList.drop 24 = dktX3_remove_1 := dk_seg dksX3_remove_0 24 rfl rfl
theorem dksX3_remove_2 : cX3_remove.data.toList.drop 48 = dktX3_remove_2 := dk_seg dksX3_remove_1 24 rfl rfl
theorem dX3_remove_0 : decode cX3_remove 0 = .ok (.aload_n 0, 1) := dk_42 (dk_at dksX3_remove_0 0 rfl rfl)
theorem dX3_remove_1 : decode cX3_remove 1 = .ok (.iload_n 1, 1) := dk_27 (dk_at dksX3_remove_0 1 rfl rfl)
theorem dX3_remove_2 : decode cX3_remove 2 = .ok (.invokevirtual 121, 3) := dk_182 0 121 (dk_at dksX3_remove_0 2 rfl rfl)
theorem dX3_remove_5 : decode cX3_remove 5 = .ok (.istore_n 2, 1) := dk_61 (dk_at dksX3_remove_0 5 rfl rfl)
theorem dX3_remove_6 : decode cX3_remove 6 = .ok (.iload_n 2, 1) := dk_28 (dk_at dksX3_remove_0 6 rfl rfl)
theorem dX3_remove_7 : decode cX3_remove 7 = .ok (.ifCond .eq 9, 3) := dk_153 0 9 (dk_at dksX3_remove_0 7 rfl rfl)
theorem dX3_remove_10 : decode cX3_remove 10 = .ok (.aload_n 0, 1) := dk_42 (dk_at dksX3_remove_0 10 rfl rfl)
theorem dX3_remove_11 : decode cX3_remove 11 = .ok (.iload_n 2, 1) := dk_28 (dk_at dksX3_remove_0 11 rfl rfl)
theorem dX3_remove_12 : decode cX3_remove 12 = .ok (.invokevirtual 80, 3) := dk_182 0 80 (dk_at dksX3_remove_0 12 rfl rfl)
theorem dX3_remove_15 : decode cX3_remove 15 = .ok (.ireturn, 1) := dk_172 (dk_at dksX3_remove_0 15 rfl rfl)
theorem dX3_remove_16 : decode cX3_remove 16 = .ok (.aload_n 0, 1) := dk_42 (dk_at dksX3_remove_0 16 rfl rfl)
theorem dX3_remove_17 : decode cX3_remove 17 = .ok (.iload_n 1, 1) := dk_27 (dk_at dksX3_remove_0 17 rfl rfl)
theorem dX3_remove_18 : decode cX3_remove 18 = .ok (.iconst 2, 1) := dk_5 (dk_at dksX3_remove_0 18 rfl rfl)
theorem dX3_remove_19 : decode cX3_remove 19 = .ok (.invokevirtual 49, 3) := dk_182 0 49 (dk_at dksX3_remove_0 19 rfl rfl)
theorem dX3_remove_22 : decode cX3_remove 22 = .ok (.istore_n 3, 1) := dk_62 (dk_at dksX3_remove_0 22 rfl rfl)
theorem dX3_remove_23 : decode cX3_remove 23 = .ok (.iconst 0, 1) := dk_3 (dk_at dksX3_remove_0 23 rfl rfl)
theorem dX3_remove_24 : decode cX3_remove 24 = .ok (.istore 4, 2) := dk_54 4 (dk_at dksX3_remove_1 0 rfl rfl)
theorem dX3_remove_26 : decode cX3_remove 26 = .ok (.iload 4, 2) := dk_21 4 (dk_at dksX3_remove_1 2 rfl rfl)
theorem dX3_remove_28 : decode cX3_remove 28 = .ok (.bipush 124, 2) := dk_16 124 (dk_at dksX3_remove_1 4 rfl rfl)
theorem dX3_remove_30 : decode cX3_remove 30 = .ok (.if_icmp .ge 17, 3) := dk_162 0 17 (dk_at dksX3_remove_1 6 rfl rfl)
theorem dX3_remove_33 : decode cX3_remove 33 = .ok (.aload_n 0, 1) := dk_42 (dk_at dksX3_remove_1 9 rfl rfl)
theorem dX3_remove_34 : decode cX3_remove 34 = .ok (.iload_n 1, 1) := dk_27 (dk_at dksX3_remove_1 10 rfl rfl)
theorem dX3_remove_35 : decode cX3_remove 35 = .ok (.iload 4, 2) := dk_21 4 (dk_at dksX3_remove_1 11 rfl rfl)
theorem dX3_remove_37 : decode cX3_remove 37 = .ok (.iconst 0, 1) := dk_3 (dk_at dksX3_remove_1 13 rfl rfl)
theorem dX3_remove_38 : decode cX3_remove 38 = .ok (.invokevirtual 53, 3) := dk_182 0 53 (dk_at dksX3_remove_1 14 rfl rfl)
theorem dX3_remove_41 : decode cX3_remove 41 = .ok (.iinc 4 1, 3) := dk_132 4 1 (dk_at dksX3_remove_1 17 rfl rfl)
theorem dX3_remove_44 : decode cX3_remove 44 = .ok (.goto (-18), 3) := dk_167 255 238 (dk_at dksX3_remove_1 20 rfl rfl)
theorem dX3_remove_47 : decode cX3_remove 47 = .ok (.aload_n 0, 1) := dk_42 (dk_at dksX3_remove_1 23 rfl rfl)
theorem dX3_remove_48 : decode cX3_remove 48 = .ok (.sipush 200, 3) := dk_17 0 200 (dk_at dksX3_remove_2 0 rfl rfl)
theorem dX3_remove_51 : decode cX3_remove 51 = .ok (.iload_n 1, 1) := dk_27 (dk_at dksX3_remove_2 3 rfl rfl)
theorem dX3_remove_52 : decode cX3_remove 52 = .ok (.iadd, 1) := dk_96 (dk_at dksX3_remove_2 4 rfl rfl)
theorem dX3_remove_53 : decode cX3_remove 53 = .ok (.invokevirtual 117, 3) := dk_182 0 117 (dk_at dksX3_remove_2 5 rfl rfl)
theorem dX3_remove_56 : decode cX3_remove 56 = .ok (.aload_n 0, 1) := dk_42 (dk_at dksX3_remove_2 8 rfl rfl)
theorem dX3_remove_57 : decode cX3_remove 57 = .ok (.iload_n 3, 1) := dk_29 (dk_at dksX3_remove_2 9 rfl rfl)
theorem dX3_remove_58 : decode cX3_remove 58 = .ok (.invokevirtual 69, 3) := dk_182 0 69 (dk_at dksX3_remove_2 10 rfl rfl)
theorem dX3_remove_61 : decode cX3_remove 61 = .ok (.ireturn, 1) := dk_172 (dk_at dksX3_remove_2 13 rfl rfl)
abbrev cX3_lacks : ByteArray := prog_27_method_34_code
def yX3_lacks : MethodName := ⟨RX3, "lacks", "(I)I"⟩
def dkwX3_lacks_1 : List UInt8 := [3, 172]
abbrev dktX3_lacks_1 : List UInt8 := dkwX3_lacks_1 ++ []
def dkwX3_lacks_0 : List UInt8 := [27, 184, 0, 107, 154, 0, 7, 4, 167, 0, 17, 42, 27, 3, 182, 0, 49, 154, 0, 7, 5, 167, 0, 4]
abbrev dktX3_lacks_0 : List UInt8 := dkwX3_lacks_0 ++ dktX3_lacks_1
theorem dksX3_lacks_0 : cX3_lacks.data.toList.drop 0 = dktX3_lacks_0 := by decide +kernel
theorem dksX3_lacks_1 : cX3_lacks.data.toList.drop 24 = dktX3_lacks_1 := dk_seg dksX3_lacks_0 24 rfl rfl
theorem dX3_lacks_0 : decode cX3_lacks 0 = .ok (.iload_n 1, 1) := dk_27 (dk_at dksX3_lacks_0 0 rfl rfl)
theorem dX3_lacks_1 : decode cX3_lacks 1 = .ok (.invokestatic 107, 3) := dk_184 0 107 (dk_at dksX3_lacks_0 1 rfl rfl)
theorem dX3_lacks_4 : decode cX3_lacks 4 = .ok (.ifCond .ne 7, 3) := dk_154 0 7 (dk_at dksX3_lacks_0 4 rfl rfl)
theorem dX3_lacks_7 : decode cX3_lacks 7 = .ok (.iconst 1, 1) := dk_4 (dk_at dksX3_lacks_0 7 rfl rfl)
theorem dX3_lacks_8 : decode cX3_lacks 8 = .ok (.goto 17, 3) := dk_167 0 17 (dk_at dksX3_lacks_0 8 rfl rfl)
theorem dX3_lacks_11 : decode cX3_lacks 11 = .ok (.aload_n 0, 1) := dk_42 (dk_at dksX3_lacks_0 11 rfl rfl)
theorem dX3_lacks_12 : decode cX3_lacks 12 = .ok (.iload_n 1, 1) := dk_27 (dk_at dksX3_lacks_0 12 rfl rfl)
theorem dX3_lacks_13 : decode cX3_lacks 13 = .ok (.iconst 0, 1) := dk_3 (dk_at dksX3_lacks_0 13 rfl rfl)
theorem dX3_lacks_14 : decode cX3_lacks 14 = .ok (.invokevirtual 49, 3) := dk_182 0 49 (dk_at dksX3_lacks_0 14 rfl rfl)
theorem dX3_lacks_17 : decode cX3_lacks 17 = .ok (.ifCond .ne 7, 3) := dk_154 0 7 (dk_at dksX3_lacks_0 17 rfl rfl)
theorem dX3_lacks_20 : decode cX3_lacks 20 = .ok (.iconst 2, 1) := dk_5 (dk_at dksX3_lacks_0 20 rfl rfl)
theorem dX3_lacks_21 : decode cX3_lacks 21 = .ok (.goto 4, 3) := dk_167 0 4 (dk_at dksX3_lacks_0 21 rfl rfl)
theorem dX3_lacks_24 : decode cX3_lacks 24 = .ok (.iconst 0, 1) := dk_3 (dk_at dksX3_lacks_1 0 rfl rfl)
theorem dX3_lacks_25 : decode cX3_lacks 25 = .ok (.ireturn, 1) := dk_172 (dk_at dksX3_lacks_1 1 rfl rfl)
abbrev cX3_refresh : ByteArray := prog_27_method_36_code
def yX3_refresh : MethodName := ⟨RX3, "refresh", "(I)I"⟩
def dkwX3_refresh_9 : List UInt8 := [17, 1, 44, 27, 96, 182, 0, 117, 42, 21, 5, 182, 0, 69, 172]
abbrev dktX3_refresh_9 : List UInt8 := dkwX3_refresh_9 ++ []
def dkwX3_refresh_8 : List UInt8 := [17, 7, 247, 112, 182, 0, 53, 132, 6, 1, 167, 255, 210, 42, 27, 5, 21, 4, 4, 96, 182, 0, 53, 42]
abbrev dktX3_refresh_8 : List UInt8 := dkwX3_refresh_8 ++ dktX3_refresh_9
def dkwX3_refresh_7 : List UInt8 := [42, 27, 6, 21, 6, 96, 182, 0, 49, 7, 42, 180, 0, 16, 21, 6, 46, 17, 7, 247, 184, 0, 65, 104]
abbrev dktX3_refresh_7 : List UInt8 := dkwX3_refresh_7 ++ dktX3_refresh_8
def dkwX3_refresh_6 : List UInt8 := [132, 5, 1, 132, 6, 1, 167, 255, 177, 3, 54, 6, 21, 6, 29, 162, 0, 46, 42, 27, 6, 21, 6, 96]
abbrev dktX3_refresh_6 : List UInt8 := dkwX3_refresh_6 ++ dktX3_refresh_7
def dkwX3_refresh_5 : List UInt8 := [4, 182, 0, 57, 42, 29, 21, 6, 182, 0, 100, 96, 17, 3, 251, 112, 21, 4, 4, 96, 182, 0, 103]
abbrev dktX3_refresh_5 : List UInt8 := dkwX3_refresh_5 ++ dktX3_refresh_6
def dkwX3_refresh_4 : List UInt8 := [153, 0, 50, 42, 27, 21, 6, 5, 182, 0, 57, 21, 4, 160, 0, 37, 42, 27, 21, 6, 42, 27, 21, 6]
abbrev dktX3_refresh_4 : List UInt8 := dkwX3_refresh_4 ++ dktX3_refresh_5
def dkwX3_refresh_3 : List UInt8 := [16, 24, 163, 0, 78, 42, 21, 6, 184, 0, 61, 182, 0, 83, 153, 0, 60, 42, 27, 21, 6, 182, 0, 86]
abbrev dktX3_refresh_3 : List UInt8 := dkwX3_refresh_3 ++ dktX3_refresh_4
def dkwX3_refresh_2 : List UInt8 := [180, 0, 16, 21, 5, 42, 182, 0, 72, 79, 132, 5, 1, 167, 255, 236, 3, 54, 5, 4, 54, 6, 21, 6]
abbrev dktX3_refresh_2 : List UInt8 := dkwX3_refresh_2 ++ dktX3_refresh_3
def dkwX3_refresh_1 : List UInt8 := [27, 5, 182, 0, 49, 54, 4, 42, 180, 0, 16, 3, 3, 79, 4, 54, 5, 21, 5, 29, 162, 0, 20, 42]
abbrev dktX3_refresh_1 : List UInt8 := dkwX3_refresh_1 ++ dktX3_refresh_2
def dkwX3_refresh_0 : List UInt8 := [42, 27, 182, 0, 121, 61, 28, 153, 0, 9, 42, 28, 182, 0, 80, 172, 42, 27, 4, 182, 0, 49, 62, 42]
abbrev dktX3_refresh_0 : List UInt8 := dkwX3_refresh_0 ++ dktX3_refresh_1
theorem dksX3_refresh_0 : cX3_refresh.data.toList.drop 0 = dktX3_refresh_0 := by decide +kernel
theorem dksX3_refresh_1 : cX3_refresh.data.toList.drop 24 = dktX3_refresh_1 := dk_seg dksX3_refresh_0 24 rfl rfl
theorem dksX3_refresh_2 : cX3_refresh.data.toList.drop 48 = dktX3_refresh_2 := dk_seg dksX3_refresh_1 24 rfl rfl
theorem dksX3_refresh_3 : cX3_refresh.data.toList.drop 72 = dktX3_refresh_3 := dk_seg dksX3_refresh_2 24 rfl rfl
theorem dksX3_refresh_4 : cX3_refresh.data.toList.drop 96 = dktX3_refresh_4 := dk_seg dksX3_refresh_3 24 rfl rfl
theorem dksX3_refresh_5 : cX3_refresh.data.toList.drop 120 = dktX3_refresh_5 := dk_seg dksX3_refresh_4 24 rfl rfl
theorem dksX3_refresh_6 : cX3_refresh.data.toList.drop 143 = dktX3_refresh_6 := dk_seg dksX3_refresh_5 23 rfl rfl
theorem dksX3_refresh_7 : cX3_refresh.data.toList.drop 167 = dktX3_refresh_7 := dk_seg dksX3_refresh_6 24 rfl rfl
theorem dksX3_refresh_8 : cX3_refresh.data.toList.drop 191 = dktX3_refresh_8 := dk_seg dksX3_refresh_7 24 rfl rfl
theorem dksX3_refresh_9 : cX3_refresh.data.toList.drop 215 = dktX3_refresh_9 := dk_seg dksX3_refresh_8 24 rfl rfl
theorem dX3_refresh_0 : decode cX3_refresh 0 = .ok (.aload_n 0, 1) := dk_42 (dk_at dksX3_refresh_0 0 rfl rfl)
theorem dX3_refresh_1 : decode cX3_refresh 1 = .ok (.iload_n 1, 1) := dk_27 (dk_at dksX3_refresh_0 1 rfl rfl)
theorem dX3_refresh_2 : decode cX3_refresh 2 = .ok (.invokevirtual 121, 3) := dk_182 0 121 (dk_at dksX3_refresh_0 2 rfl rfl)
theorem dX3_refresh_5 : decode cX3_refresh 5 = .ok (.istore_n 2, 1) := dk_61 (dk_at dksX3_refresh_0 5 rfl rfl)
theorem dX3_refresh_6 : decode cX3_refresh 6 = .ok (.iload_n 2, 1) := dk_28 (dk_at dksX3_refresh_0 6 rfl rfl)
theorem dX3_refresh_7 : decode cX3_refresh 7 = .ok (.ifCond .eq 9, 3) := dk_153 0 9 (dk_at dksX3_refresh_0 7 rfl rfl)
theorem dX3_refresh_10 : decode cX3_refresh 10 = .ok (.aload_n 0, 1) := dk_42 (dk_at dksX3_refresh_0 10 rfl rfl)
theorem dX3_refresh_11 : decode cX3_refresh 11 = .ok (.iload_n 2, 1) := dk_28 (dk_at dksX3_refresh_0 11 rfl rfl)
theorem dX3_refresh_12 : decode cX3_refresh 12 = .ok (.invokevirtual 80, 3) := dk_182 0 80 (dk_at dksX3_refresh_0 12 rfl rfl)
theorem dX3_refresh_15 : decode cX3_refresh 15 = .ok (.ireturn, 1) := dk_172 (dk_at dksX3_refresh_0 15 rfl rfl)
theorem dX3_refresh_16 : decode cX3_refresh 16 = .ok (.aload_n 0, 1) := dk_42 (dk_at dksX3_refresh_0 16 rfl rfl)
theorem dX3_refresh_17 : decode cX3_refresh 17 = .ok (.iload_n 1, 1) := dk_27 (dk_at dksX3_refresh_0 17 rfl rfl)
theorem dX3_refresh_18 : decode cX3_refresh 18 = .ok (.iconst 1, 1) := dk_4 (dk_at dksX3_refresh_0 18 rfl rfl)
theorem dX3_refresh_19 : decode cX3_refresh 19 = .ok (.invokevirtual 49, 3) := dk_182 0 49 (dk_at dksX3_refresh_0 19 rfl rfl)
theorem dX3_refresh_22 : decode cX3_refresh 22 = .ok (.istore_n 3, 1) := dk_62 (dk_at dksX3_refresh_0 22 rfl rfl)
theorem dX3_refresh_23 : decode cX3_refresh 23 = .ok (.aload_n 0, 1) := dk_42 (dk_at dksX3_refresh_0 23 rfl rfl)
theorem dX3_refresh_24 : decode cX3_refresh 24 = .ok (.iload_n 1, 1) := dk_27 (dk_at dksX3_refresh_1 0 rfl rfl)
theorem dX3_refresh_25 : decode cX3_refresh 25 = .ok (.iconst 2, 1) := dk_5 (dk_at dksX3_refresh_1 1 rfl rfl)
theorem dX3_refresh_26 : decode cX3_refresh 26 = .ok (.invokevirtual 49, 3) := dk_182 0 49 (dk_at dksX3_refresh_1 2 rfl rfl)
theorem dX3_refresh_29 : decode cX3_refresh 29 = .ok (.istore 4, 2) := dk_54 4 (dk_at dksX3_refresh_1 5 rfl rfl)
theorem dX3_refresh_31 : decode cX3_refresh 31 = .ok (.aload_n 0, 1) := dk_42 (dk_at dksX3_refresh_1 7 rfl rfl)
theorem dX3_refresh_32 : decode cX3_refresh 32 = .ok (.getfield 16, 3) := dk_180 0 16 (dk_at dksX3_refresh_1 8 rfl rfl)
theorem dX3_refresh_35 : decode cX3_refresh 35 = .ok (.iconst 0, 1) := dk_3 (dk_at dksX3_refresh_1 11 rfl rfl)
theorem dX3_refresh_36 : decode cX3_refresh 36 = .ok (.iconst 0, 1) := dk_3 (dk_at dksX3_refresh_1 12 rfl rfl)
theorem dX3_refresh_37 : decode cX3_refresh 37 = .ok (.iastore, 1) := dk_79 (dk_at dksX3_refresh_1 13 rfl rfl)
theorem dX3_refresh_38 : decode cX3_refresh 38 = .ok (.iconst 1, 1) := dk_4 (dk_at dksX3_refresh_1 14 rfl rfl)
theorem dX3_refresh_39 : decode cX3_refresh 39 = .ok (.istore 5, 2) := dk_54 5 (dk_at dksX3_refresh_1 15 rfl rfl)
theorem dX3_refresh_41 : decode cX3_refresh 41 = .ok (.iload 5, 2) := dk_21 5 (dk_at dksX3_refresh_1 17 rfl rfl)
theorem dX3_refresh_43 : decode cX3_refresh 43 = .ok (.iload_n 3, 1) := dk_29 (dk_at dksX3_refresh_1 19 rfl rfl)
theorem dX3_refresh_44 : decode cX3_refresh 44 = .ok (.if_icmp .ge 20, 3) := dk_162 0 20 (dk_at dksX3_refresh_1 20 rfl rfl)
theorem dX3_refresh_47 : decode cX3_refresh 47 = .ok (.aload_n 0, 1) := dk_42 (dk_at dksX3_refresh_1 23 rfl rfl)
theorem dX3_refresh_48 : decode cX3_refresh 48 = .ok (.getfield 16, 3) := dk_180 0 16 (dk_at dksX3_refresh_2 0 rfl rfl)
theorem dX3_refresh_51 : decode cX3_refresh 51 = .ok (.iload 5, 2) := dk_21 5 (dk_at dksX3_refresh_2 3 rfl rfl)
theorem dX3_refresh_53 : decode cX3_refresh 53 = .ok (.aload_n 0, 1) := dk_42 (dk_at dksX3_refresh_2 5 rfl rfl)
theorem dX3_refresh_54 : decode cX3_refresh 54 = .ok (.invokevirtual 72, 3) := dk_182 0 72 (dk_at dksX3_refresh_2 6 rfl rfl)
theorem dX3_refresh_57 : decode cX3_refresh 57 = .ok (.iastore, 1) := dk_79 (dk_at dksX3_refresh_2 9 rfl rfl)
theorem dX3_refresh_58 : decode cX3_refresh 58 = .ok (.iinc 5 1, 3) := dk_132 5 1 (dk_at dksX3_refresh_2 10 rfl rfl)
theorem dX3_refresh_61 : decode cX3_refresh 61 = .ok (.goto (-20), 3) := dk_167 255 236 (dk_at dksX3_refresh_2 13 rfl rfl)
theorem dX3_refresh_64 : decode cX3_refresh 64 = .ok (.iconst 0, 1) := dk_3 (dk_at dksX3_refresh_2 16 rfl rfl)
theorem dX3_refresh_65 : decode cX3_refresh 65 = .ok (.istore 5, 2) := dk_54 5 (dk_at dksX3_refresh_2 17 rfl rfl)
theorem dX3_refresh_67 : decode cX3_refresh 67 = .ok (.iconst 1, 1) := dk_4 (dk_at dksX3_refresh_2 19 rfl rfl)
theorem dX3_refresh_68 : decode cX3_refresh 68 = .ok (.istore 6, 2) := dk_54 6 (dk_at dksX3_refresh_2 20 rfl rfl)
theorem dX3_refresh_70 : decode cX3_refresh 70 = .ok (.iload 6, 2) := dk_21 6 (dk_at dksX3_refresh_2 22 rfl rfl)
theorem dX3_refresh_72 : decode cX3_refresh 72 = .ok (.bipush 24, 2) := dk_16 24 (dk_at dksX3_refresh_3 0 rfl rfl)
theorem dX3_refresh_74 : decode cX3_refresh 74 = .ok (.if_icmp .gt 78, 3) := dk_163 0 78 (dk_at dksX3_refresh_3 2 rfl rfl)
theorem dX3_refresh_77 : decode cX3_refresh 77 = .ok (.aload_n 0, 1) := dk_42 (dk_at dksX3_refresh_3 5 rfl rfl)
theorem dX3_refresh_78 : decode cX3_refresh 78 = .ok (.iload 6, 2) := dk_21 6 (dk_at dksX3_refresh_3 6 rfl rfl)
theorem dX3_refresh_80 : decode cX3_refresh 80 = .ok (.invokestatic 61, 3) := dk_184 0 61 (dk_at dksX3_refresh_3 8 rfl rfl)
theorem dX3_refresh_83 : decode cX3_refresh 83 = .ok (.invokevirtual 83, 3) := dk_182 0 83 (dk_at dksX3_refresh_3 11 rfl rfl)
theorem dX3_refresh_86 : decode cX3_refresh 86 = .ok (.ifCond .eq 60, 3) := dk_153 0 60 (dk_at dksX3_refresh_3 14 rfl rfl)
theorem dX3_refresh_89 : decode cX3_refresh 89 = .ok (.aload_n 0, 1) := dk_42 (dk_at dksX3_refresh_3 17 rfl rfl)
theorem dX3_refresh_90 : decode cX3_refresh 90 = .ok (.iload_n 1, 1) := dk_27 (dk_at dksX3_refresh_3 18 rfl rfl)
theorem dX3_refresh_91 : decode cX3_refresh 91 = .ok (.iload 6, 2) := dk_21 6 (dk_at dksX3_refresh_3 19 rfl rfl)
theorem dX3_refresh_93 : decode cX3_refresh 93 = .ok (.invokevirtual 86, 3) := dk_182 0 86 (dk_at dksX3_refresh_3 21 rfl rfl)
theorem dX3_refresh_96 : decode cX3_refresh 96 = .ok (.ifCond .eq 50, 3) := dk_153 0 50 (dk_at dksX3_refresh_4 0 rfl rfl)
theorem dX3_refresh_99 : decode cX3_refresh 99 = .ok (.aload_n 0, 1) := dk_42 (dk_at dksX3_refresh_4 3 rfl rfl)
theorem dX3_refresh_100 : decode cX3_refresh 100 = .ok (.iload_n 1, 1) := dk_27 (dk_at dksX3_refresh_4 4 rfl rfl)
theorem dX3_refresh_101 : decode cX3_refresh 101 = .ok (.iload 6, 2) := dk_21 6 (dk_at dksX3_refresh_4 5 rfl rfl)
theorem dX3_refresh_103 : decode cX3_refresh 103 = .ok (.iconst 2, 1) := dk_5 (dk_at dksX3_refresh_4 7 rfl rfl)
theorem dX3_refresh_104 : decode cX3_refresh 104 = .ok (.invokevirtual 57, 3) := dk_182 0 57 (dk_at dksX3_refresh_4 8 rfl rfl)
theorem dX3_refresh_107 : decode cX3_refresh 107 = .ok (.iload 4, 2) := dk_21 4 (dk_at dksX3_refresh_4 11 rfl rfl)
theorem dX3_refresh_109 : decode cX3_refresh 109 = .ok (.if_icmp .ne 37, 3) := dk_160 0 37 (dk_at dksX3_refresh_4 13 rfl rfl)
theorem dX3_refresh_112 : decode cX3_refresh 112 = .ok (.aload_n 0, 1) := dk_42 (dk_at dksX3_refresh_4 16 rfl rfl)
theorem dX3_refresh_113 : decode cX3_refresh 113 = .ok (.iload_n 1, 1) := dk_27 (dk_at dksX3_refresh_4 17 rfl rfl)
theorem dX3_refresh_114 : decode cX3_refresh 114 = .ok (.iload 6, 2) := dk_21 6 (dk_at dksX3_refresh_4 18 rfl rfl)
theorem dX3_refresh_116 : decode cX3_refresh 116 = .ok (.aload_n 0, 1) := dk_42 (dk_at dksX3_refresh_4 20 rfl rfl)
theorem dX3_refresh_117 : decode cX3_refresh 117 = .ok (.iload_n 1, 1) := dk_27 (dk_at dksX3_refresh_4 21 rfl rfl)
theorem dX3_refresh_118 : decode cX3_refresh 118 = .ok (.iload 6, 2) := dk_21 6 (dk_at dksX3_refresh_4 22 rfl rfl)
theorem dX3_refresh_120 : decode cX3_refresh 120 = .ok (.iconst 1, 1) := dk_4 (dk_at dksX3_refresh_5 0 rfl rfl)
theorem dX3_refresh_121 : decode cX3_refresh 121 = .ok (.invokevirtual 57, 3) := dk_182 0 57 (dk_at dksX3_refresh_5 1 rfl rfl)
theorem dX3_refresh_124 : decode cX3_refresh 124 = .ok (.aload_n 0, 1) := dk_42 (dk_at dksX3_refresh_5 4 rfl rfl)
theorem dX3_refresh_125 : decode cX3_refresh 125 = .ok (.iload_n 3, 1) := dk_29 (dk_at dksX3_refresh_5 5 rfl rfl)
theorem dX3_refresh_126 : decode cX3_refresh 126 = .ok (.iload 6, 2) := dk_21 6 (dk_at dksX3_refresh_5 6 rfl rfl)
theorem dX3_refresh_128 : decode cX3_refresh 128 = .ok (.invokevirtual 100, 3) := dk_182 0 100 (dk_at dksX3_refresh_5 8 rfl rfl)
theorem dX3_refresh_131 : decode cX3_refresh 131 = .ok (.iadd, 1) := dk_96 (dk_at dksX3_refresh_5 11 rfl rfl)
theorem dX3_refresh_132 : decode cX3_refresh 132 = .ok (.sipush 1019, 3) := dk_17 3 251 (dk_at dksX3_refresh_5 12 rfl rfl)
theorem dX3_refresh_135 : decode cX3_refresh 135 = .ok (.irem, 1) := dk_112 (dk_at dksX3_refresh_5 15 rfl rfl)
theorem dX3_refresh_136 : decode cX3_refresh 136 = .ok (.iload 4, 2) := dk_21 4 (dk_at dksX3_refresh_5 16 rfl rfl)
theorem dX3_refresh_138 : decode cX3_refresh 138 = .ok (.iconst 1, 1) := dk_4 (dk_at dksX3_refresh_5 18 rfl rfl)
theorem dX3_refresh_139 : decode cX3_refresh 139 = .ok (.iadd, 1) := dk_96 (dk_at dksX3_refresh_5 19 rfl rfl)
theorem dX3_refresh_140 : decode cX3_refresh 140 = .ok (.invokevirtual 103, 3) := dk_182 0 103 (dk_at dksX3_refresh_5 20 rfl rfl)
theorem dX3_refresh_143 : decode cX3_refresh 143 = .ok (.iinc 5 1, 3) := dk_132 5 1 (dk_at dksX3_refresh_6 0 rfl rfl)
theorem dX3_refresh_146 : decode cX3_refresh 146 = .ok (.iinc 6 1, 3) := dk_132 6 1 (dk_at dksX3_refresh_6 3 rfl rfl)
theorem dX3_refresh_149 : decode cX3_refresh 149 = .ok (.goto (-79), 3) := dk_167 255 177 (dk_at dksX3_refresh_6 6 rfl rfl)
theorem dX3_refresh_152 : decode cX3_refresh 152 = .ok (.iconst 0, 1) := dk_3 (dk_at dksX3_refresh_6 9 rfl rfl)
theorem dX3_refresh_153 : decode cX3_refresh 153 = .ok (.istore 6, 2) := dk_54 6 (dk_at dksX3_refresh_6 10 rfl rfl)
theorem dX3_refresh_155 : decode cX3_refresh 155 = .ok (.iload 6, 2) := dk_21 6 (dk_at dksX3_refresh_6 12 rfl rfl)
theorem dX3_refresh_157 : decode cX3_refresh 157 = .ok (.iload_n 3, 1) := dk_29 (dk_at dksX3_refresh_6 14 rfl rfl)
theorem dX3_refresh_158 : decode cX3_refresh 158 = .ok (.if_icmp .ge 46, 3) := dk_162 0 46 (dk_at dksX3_refresh_6 15 rfl rfl)
theorem dX3_refresh_161 : decode cX3_refresh 161 = .ok (.aload_n 0, 1) := dk_42 (dk_at dksX3_refresh_6 18 rfl rfl)
theorem dX3_refresh_162 : decode cX3_refresh 162 = .ok (.iload_n 1, 1) := dk_27 (dk_at dksX3_refresh_6 19 rfl rfl)
theorem dX3_refresh_163 : decode cX3_refresh 163 = .ok (.iconst 3, 1) := dk_6 (dk_at dksX3_refresh_6 20 rfl rfl)
theorem dX3_refresh_164 : decode cX3_refresh 164 = .ok (.iload 6, 2) := dk_21 6 (dk_at dksX3_refresh_6 21 rfl rfl)
theorem dX3_refresh_166 : decode cX3_refresh 166 = .ok (.iadd, 1) := dk_96 (dk_at dksX3_refresh_6 23 rfl rfl)
theorem dX3_refresh_167 : decode cX3_refresh 167 = .ok (.aload_n 0, 1) := dk_42 (dk_at dksX3_refresh_7 0 rfl rfl)
theorem dX3_refresh_168 : decode cX3_refresh 168 = .ok (.iload_n 1, 1) := dk_27 (dk_at dksX3_refresh_7 1 rfl rfl)
theorem dX3_refresh_169 : decode cX3_refresh 169 = .ok (.iconst 3, 1) := dk_6 (dk_at dksX3_refresh_7 2 rfl rfl)
theorem dX3_refresh_170 : decode cX3_refresh 170 = .ok (.iload 6, 2) := dk_21 6 (dk_at dksX3_refresh_7 3 rfl rfl)
theorem dX3_refresh_172 : decode cX3_refresh 172 = .ok (.iadd, 1) := dk_96 (dk_at dksX3_refresh_7 5 rfl rfl)
theorem dX3_refresh_173 : decode cX3_refresh 173 = .ok (.invokevirtual 49, 3) := dk_182 0 49 (dk_at dksX3_refresh_7 6 rfl rfl)
theorem dX3_refresh_176 : decode cX3_refresh 176 = .ok (.iconst 4, 1) := dk_7 (dk_at dksX3_refresh_7 9 rfl rfl)
theorem dX3_refresh_177 : decode cX3_refresh 177 = .ok (.aload_n 0, 1) := dk_42 (dk_at dksX3_refresh_7 10 rfl rfl)
theorem dX3_refresh_178 : decode cX3_refresh 178 = .ok (.getfield 16, 3) := dk_180 0 16 (dk_at dksX3_refresh_7 11 rfl rfl)
theorem dX3_refresh_181 : decode cX3_refresh 181 = .ok (.iload 6, 2) := dk_21 6 (dk_at dksX3_refresh_7 14 rfl rfl)
theorem dX3_refresh_183 : decode cX3_refresh 183 = .ok (.iaload, 1) := dk_46 (dk_at dksX3_refresh_7 16 rfl rfl)
theorem dX3_refresh_184 : decode cX3_refresh 184 = .ok (.sipush 2039, 3) := dk_17 7 247 (dk_at dksX3_refresh_7 17 rfl rfl)
theorem dX3_refresh_187 : decode cX3_refresh 187 = .ok (.invokestatic 65, 3) := dk_184 0 65 (dk_at dksX3_refresh_7 20 rfl rfl)
theorem dX3_refresh_190 : decode cX3_refresh 190 = .ok (.imul, 1) := dk_104 (dk_at dksX3_refresh_7 23 rfl rfl)
theorem dX3_refresh_191 : decode cX3_refresh 191 = .ok (.sipush 2039, 3) := dk_17 7 247 (dk_at dksX3_refresh_8 0 rfl rfl)
theorem dX3_refresh_194 : decode cX3_refresh 194 = .ok (.irem, 1) := dk_112 (dk_at dksX3_refresh_8 3 rfl rfl)
theorem dX3_refresh_195 : decode cX3_refresh 195 = .ok (.invokevirtual 53, 3) := dk_182 0 53 (dk_at dksX3_refresh_8 4 rfl rfl)
theorem dX3_refresh_198 : decode cX3_refresh 198 = .ok (.iinc 6 1, 3) := dk_132 6 1 (dk_at dksX3_refresh_8 7 rfl rfl)
theorem dX3_refresh_201 : decode cX3_refresh 201 = .ok (.goto (-46), 3) := dk_167 255 210 (dk_at dksX3_refresh_8 10 rfl rfl)
theorem dX3_refresh_204 : decode cX3_refresh 204 = .ok (.aload_n 0, 1) := dk_42 (dk_at dksX3_refresh_8 13 rfl rfl)
theorem dX3_refresh_205 : decode cX3_refresh 205 = .ok (.iload_n 1, 1) := dk_27 (dk_at dksX3_refresh_8 14 rfl rfl)
theorem dX3_refresh_206 : decode cX3_refresh 206 = .ok (.iconst 2, 1) := dk_5 (dk_at dksX3_refresh_8 15 rfl rfl)
theorem dX3_refresh_207 : decode cX3_refresh 207 = .ok (.iload 4, 2) := dk_21 4 (dk_at dksX3_refresh_8 16 rfl rfl)
theorem dX3_refresh_209 : decode cX3_refresh 209 = .ok (.iconst 1, 1) := dk_4 (dk_at dksX3_refresh_8 18 rfl rfl)
theorem dX3_refresh_210 : decode cX3_refresh 210 = .ok (.iadd, 1) := dk_96 (dk_at dksX3_refresh_8 19 rfl rfl)
theorem dX3_refresh_211 : decode cX3_refresh 211 = .ok (.invokevirtual 53, 3) := dk_182 0 53 (dk_at dksX3_refresh_8 20 rfl rfl)
theorem dX3_refresh_214 : decode cX3_refresh 214 = .ok (.aload_n 0, 1) := dk_42 (dk_at dksX3_refresh_8 23 rfl rfl)
theorem dX3_refresh_215 : decode cX3_refresh 215 = .ok (.sipush 300, 3) := dk_17 1 44 (dk_at dksX3_refresh_9 0 rfl rfl)
theorem dX3_refresh_218 : decode cX3_refresh 218 = .ok (.iload_n 1, 1) := dk_27 (dk_at dksX3_refresh_9 3 rfl rfl)
theorem dX3_refresh_219 : decode cX3_refresh 219 = .ok (.iadd, 1) := dk_96 (dk_at dksX3_refresh_9 4 rfl rfl)
theorem dX3_refresh_220 : decode cX3_refresh 220 = .ok (.invokevirtual 117, 3) := dk_182 0 117 (dk_at dksX3_refresh_9 5 rfl rfl)
theorem dX3_refresh_223 : decode cX3_refresh 223 = .ok (.aload_n 0, 1) := dk_42 (dk_at dksX3_refresh_9 8 rfl rfl)
theorem dX3_refresh_224 : decode cX3_refresh 224 = .ok (.iload 5, 2) := dk_21 5 (dk_at dksX3_refresh_9 9 rfl rfl)
theorem dX3_refresh_226 : decode cX3_refresh 226 = .ok (.invokevirtual 69, 3) := dk_182 0 69 (dk_at dksX3_refresh_9 11 rfl rfl)
theorem dX3_refresh_229 : decode cX3_refresh 229 = .ok (.ireturn, 1) := dk_172 (dk_at dksX3_refresh_9 14 rfl rfl)
abbrev cX3_reshare : ByteArray := prog_27_method_49_code
def yX3_reshare : MethodName := ⟨RX3, "reshare", "(III)I"⟩
def dkwX3_reshare_4 : List UInt8 := [182, 0, 113, 54, 5, 42, 17, 1, 144, 27, 96, 182, 0, 117, 42, 21, 5, 182, 0, 69, 172]
abbrev dktX3_reshare_4 : List UInt8 := dkwX3_reshare_4 ++ []
def dkwX3_reshare_3 : List UInt8 := [42, 27, 42, 27, 42, 27, 4, 182, 0, 49, 3, 182, 0, 171, 29, 42, 27, 5, 182, 0, 49, 4, 96]
abbrev dktX3_reshare_3 : List UInt8 := dkwX3_reshare_3 ++ dktX3_reshare_4
def dkwX3_reshare_2 : List UInt8 := [153, 0, 10, 42, 21, 4, 182, 0, 80, 172, 42, 182, 0, 110, 29, 162, 0, 9, 42, 8, 182, 0, 80, 172]
abbrev dktX3_reshare_2 : List UInt8 := dkwX3_reshare_2 ++ dktX3_reshare_3
def dkwX3_reshare_1 : List UInt8 := [184, 0, 45, 154, 0, 9, 42, 5, 182, 0, 80, 172, 42, 27, 28, 182, 0, 168, 54, 4, 21, 4]
abbrev dktX3_reshare_1 : List UInt8 := dkwX3_reshare_1 ++ dktX3_reshare_2
def dkwX3_reshare_0 : List UInt8 := [27, 184, 0, 107, 154, 0, 9, 42, 4, 182, 0, 80, 172, 28, 184, 0, 159, 153, 0, 13, 29, 4, 16, 8]
abbrev dktX3_reshare_0 : List UInt8 := dkwX3_reshare_0 ++ dktX3_reshare_1
theorem dksX3_reshare_0 : cX3_reshare.data.toList.drop 0 = dktX3_reshare_0 := by decide +kernel
theorem dksX3_reshare_1 : cX3_reshare.data.toList.drop 24 = dktX3_reshare_1 := dk_seg dksX3_reshare_0 24 rfl rfl
theorem dksX3_reshare_2 : cX3_reshare.data.toList.drop 46 = dktX3_reshare_2 := dk_seg dksX3_reshare_1 22 rfl rfl
theorem dksX3_reshare_3 : cX3_reshare.data.toList.drop 70 = dktX3_reshare_3 := dk_seg dksX3_reshare_2 24 rfl rfl
theorem dksX3_reshare_4 : cX3_reshare.data.toList.drop 93 = dktX3_reshare_4 := dk_seg dksX3_reshare_3 23 rfl rfl
theorem dX3_reshare_0 : decode cX3_reshare 0 = .ok (.iload_n 1, 1) := dk_27 (dk_at dksX3_reshare_0 0 rfl rfl)
theorem dX3_reshare_1 : decode cX3_reshare 1 = .ok (.invokestatic 107, 3) := dk_184 0 107 (dk_at dksX3_reshare_0 1 rfl rfl)
theorem dX3_reshare_4 : decode cX3_reshare 4 = .ok (.ifCond .ne 9, 3) := dk_154 0 9 (dk_at dksX3_reshare_0 4 rfl rfl)
theorem dX3_reshare_7 : decode cX3_reshare 7 = .ok (.aload_n 0, 1) := dk_42 (dk_at dksX3_reshare_0 7 rfl rfl)
theorem dX3_reshare_8 : decode cX3_reshare 8 = .ok (.iconst 1, 1) := dk_4 (dk_at dksX3_reshare_0 8 rfl rfl)
theorem dX3_reshare_9 : decode cX3_reshare 9 = .ok (.invokevirtual 80, 3) := dk_182 0 80 (dk_at dksX3_reshare_0 9 rfl rfl)
theorem dX3_reshare_12 : decode cX3_reshare 12 = .ok (.ireturn, 1) := dk_172 (dk_at dksX3_reshare_0 12 rfl rfl)
theorem dX3_reshare_13 : decode cX3_reshare 13 = .ok (.iload_n 2, 1) := dk_28 (dk_at dksX3_reshare_0 13 rfl rfl)
theorem dX3_reshare_14 : decode cX3_reshare 14 = .ok (.invokestatic 159, 3) := dk_184 0 159 (dk_at dksX3_reshare_0 14 rfl rfl)
theorem dX3_reshare_17 : decode cX3_reshare 17 = .ok (.ifCond .eq 13, 3) := dk_153 0 13 (dk_at dksX3_reshare_0 17 rfl rfl)
theorem dX3_reshare_20 : decode cX3_reshare 20 = .ok (.iload_n 3, 1) := dk_29 (dk_at dksX3_reshare_0 20 rfl rfl)
theorem dX3_reshare_21 : decode cX3_reshare 21 = .ok (.iconst 1, 1) := dk_4 (dk_at dksX3_reshare_0 21 rfl rfl)
theorem dX3_reshare_22 : decode cX3_reshare 22 = .ok (.bipush 8, 2) := dk_16 8 (dk_at dksX3_reshare_0 22 rfl rfl)
theorem dX3_reshare_24 : decode cX3_reshare 24 = .ok (.invokestatic 45, 3) := dk_184 0 45 (dk_at dksX3_reshare_1 0 rfl rfl)
theorem dX3_reshare_27 : decode cX3_reshare 27 = .ok (.ifCond .ne 9, 3) := dk_154 0 9 (dk_at dksX3_reshare_1 3 rfl rfl)
theorem dX3_reshare_30 : decode cX3_reshare 30 = .ok (.aload_n 0, 1) := dk_42 (dk_at dksX3_reshare_1 6 rfl rfl)
theorem dX3_reshare_31 : decode cX3_reshare 31 = .ok (.iconst 2, 1) := dk_5 (dk_at dksX3_reshare_1 7 rfl rfl)
theorem dX3_reshare_32 : decode cX3_reshare 32 = .ok (.invokevirtual 80, 3) := dk_182 0 80 (dk_at dksX3_reshare_1 8 rfl rfl)
theorem dX3_reshare_35 : decode cX3_reshare 35 = .ok (.ireturn, 1) := dk_172 (dk_at dksX3_reshare_1 11 rfl rfl)
theorem dX3_reshare_36 : decode cX3_reshare 36 = .ok (.aload_n 0, 1) := dk_42 (dk_at dksX3_reshare_1 12 rfl rfl)
theorem dX3_reshare_37 : decode cX3_reshare 37 = .ok (.iload_n 1, 1) := dk_27 (dk_at dksX3_reshare_1 13 rfl rfl)
theorem dX3_reshare_38 : decode cX3_reshare 38 = .ok (.iload_n 2, 1) := dk_28 (dk_at dksX3_reshare_1 14 rfl rfl)
theorem dX3_reshare_39 : decode cX3_reshare 39 = .ok (.invokevirtual 168, 3) := dk_182 0 168 (dk_at dksX3_reshare_1 15 rfl rfl)
theorem dX3_reshare_42 : decode cX3_reshare 42 = .ok (.istore 4, 2) := dk_54 4 (dk_at dksX3_reshare_1 18 rfl rfl)
theorem dX3_reshare_44 : decode cX3_reshare 44 = .ok (.iload 4, 2) := dk_21 4 (dk_at dksX3_reshare_1 20 rfl rfl)
theorem dX3_reshare_46 : decode cX3_reshare 46 = .ok (.ifCond .eq 10, 3) := dk_153 0 10 (dk_at dksX3_reshare_2 0 rfl rfl)
theorem dX3_reshare_49 : decode cX3_reshare 49 = .ok (.aload_n 0, 1) := dk_42 (dk_at dksX3_reshare_2 3 rfl rfl)
theorem dX3_reshare_50 : decode cX3_reshare 50 = .ok (.iload 4, 2) := dk_21 4 (dk_at dksX3_reshare_2 4 rfl rfl)
theorem dX3_reshare_52 : decode cX3_reshare 52 = .ok (.invokevirtual 80, 3) := dk_182 0 80 (dk_at dksX3_reshare_2 6 rfl rfl)
theorem dX3_reshare_55 : decode cX3_reshare 55 = .ok (.ireturn, 1) := dk_172 (dk_at dksX3_reshare_2 9 rfl rfl)
theorem dX3_reshare_56 : decode cX3_reshare 56 = .ok (.aload_n 0, 1) := dk_42 (dk_at dksX3_reshare_2 10 rfl rfl)
theorem dX3_reshare_57 : decode cX3_reshare 57 = .ok (.invokevirtual 110, 3) := dk_182 0 110 (dk_at dksX3_reshare_2 11 rfl rfl)
theorem dX3_reshare_60 : decode cX3_reshare 60 = .ok (.iload_n 3, 1) := dk_29 (dk_at dksX3_reshare_2 14 rfl rfl)
theorem dX3_reshare_61 : decode cX3_reshare 61 = .ok (.if_icmp .ge 9, 3) := dk_162 0 9 (dk_at dksX3_reshare_2 15 rfl rfl)
theorem dX3_reshare_64 : decode cX3_reshare 64 = .ok (.aload_n 0, 1) := dk_42 (dk_at dksX3_reshare_2 18 rfl rfl)
theorem dX3_reshare_65 : decode cX3_reshare 65 = .ok (.iconst 5, 1) := dk_8 (dk_at dksX3_reshare_2 19 rfl rfl)
theorem dX3_reshare_66 : decode cX3_reshare 66 = .ok (.invokevirtual 80, 3) := dk_182 0 80 (dk_at dksX3_reshare_2 20 rfl rfl)
theorem dX3_reshare_69 : decode cX3_reshare 69 = .ok (.ireturn, 1) := dk_172 (dk_at dksX3_reshare_2 23 rfl rfl)
theorem dX3_reshare_70 : decode cX3_reshare 70 = .ok (.aload_n 0, 1) := dk_42 (dk_at dksX3_reshare_3 0 rfl rfl)
theorem dX3_reshare_71 : decode cX3_reshare 71 = .ok (.iload_n 1, 1) := dk_27 (dk_at dksX3_reshare_3 1 rfl rfl)
theorem dX3_reshare_72 : decode cX3_reshare 72 = .ok (.aload_n 0, 1) := dk_42 (dk_at dksX3_reshare_3 2 rfl rfl)
theorem dX3_reshare_73 : decode cX3_reshare 73 = .ok (.iload_n 1, 1) := dk_27 (dk_at dksX3_reshare_3 3 rfl rfl)
theorem dX3_reshare_74 : decode cX3_reshare 74 = .ok (.aload_n 0, 1) := dk_42 (dk_at dksX3_reshare_3 4 rfl rfl)
theorem dX3_reshare_75 : decode cX3_reshare 75 = .ok (.iload_n 1, 1) := dk_27 (dk_at dksX3_reshare_3 5 rfl rfl)
theorem dX3_reshare_76 : decode cX3_reshare 76 = .ok (.iconst 1, 1) := dk_4 (dk_at dksX3_reshare_3 6 rfl rfl)
theorem dX3_reshare_77 : decode cX3_reshare 77 = .ok (.invokevirtual 49, 3) := dk_182 0 49 (dk_at dksX3_reshare_3 7 rfl rfl)
theorem dX3_reshare_80 : decode cX3_reshare 80 = .ok (.iconst 0, 1) := dk_3 (dk_at dksX3_reshare_3 10 rfl rfl)
theorem dX3_reshare_81 : decode cX3_reshare 81 = .ok (.invokevirtual 171, 3) := dk_182 0 171 (dk_at dksX3_reshare_3 11 rfl rfl)
theorem dX3_reshare_84 : decode cX3_reshare 84 = .ok (.iload_n 3, 1) := dk_29 (dk_at dksX3_reshare_3 14 rfl rfl)
theorem dX3_reshare_85 : decode cX3_reshare 85 = .ok (.aload_n 0, 1) := dk_42 (dk_at dksX3_reshare_3 15 rfl rfl)
theorem dX3_reshare_86 : decode cX3_reshare 86 = .ok (.iload_n 1, 1) := dk_27 (dk_at dksX3_reshare_3 16 rfl rfl)
theorem dX3_reshare_87 : decode cX3_reshare 87 = .ok (.iconst 2, 1) := dk_5 (dk_at dksX3_reshare_3 17 rfl rfl)
theorem dX3_reshare_88 : decode cX3_reshare 88 = .ok (.invokevirtual 49, 3) := dk_182 0 49 (dk_at dksX3_reshare_3 18 rfl rfl)
theorem dX3_reshare_91 : decode cX3_reshare 91 = .ok (.iconst 1, 1) := dk_4 (dk_at dksX3_reshare_3 21 rfl rfl)
theorem dX3_reshare_92 : decode cX3_reshare 92 = .ok (.iadd, 1) := dk_96 (dk_at dksX3_reshare_3 22 rfl rfl)
theorem dX3_reshare_93 : decode cX3_reshare 93 = .ok (.invokevirtual 113, 3) := dk_182 0 113 (dk_at dksX3_reshare_4 0 rfl rfl)
theorem dX3_reshare_96 : decode cX3_reshare 96 = .ok (.istore 5, 2) := dk_54 5 (dk_at dksX3_reshare_4 3 rfl rfl)
theorem dX3_reshare_98 : decode cX3_reshare 98 = .ok (.aload_n 0, 1) := dk_42 (dk_at dksX3_reshare_4 5 rfl rfl)
theorem dX3_reshare_99 : decode cX3_reshare 99 = .ok (.sipush 400, 3) := dk_17 1 144 (dk_at dksX3_reshare_4 6 rfl rfl)
theorem dX3_reshare_102 : decode cX3_reshare 102 = .ok (.iload_n 1, 1) := dk_27 (dk_at dksX3_reshare_4 9 rfl rfl)
theorem dX3_reshare_103 : decode cX3_reshare 103 = .ok (.iadd, 1) := dk_96 (dk_at dksX3_reshare_4 10 rfl rfl)
theorem dX3_reshare_104 : decode cX3_reshare 104 = .ok (.invokevirtual 117, 3) := dk_182 0 117 (dk_at dksX3_reshare_4 11 rfl rfl)
theorem dX3_reshare_107 : decode cX3_reshare 107 = .ok (.aload_n 0, 1) := dk_42 (dk_at dksX3_reshare_4 14 rfl rfl)
theorem dX3_reshare_108 : decode cX3_reshare 108 = .ok (.iload 5, 2) := dk_21 5 (dk_at dksX3_reshare_4 15 rfl rfl)
theorem dX3_reshare_110 : decode cX3_reshare 110 = .ok (.invokevirtual 69, 3) := dk_182 0 69 (dk_at dksX3_reshare_4 17 rfl rfl)
theorem dX3_reshare_113 : decode cX3_reshare 113 = .ok (.ireturn, 1) := dk_172 (dk_at dksX3_reshare_4 20 rfl rfl)
abbrev cX3_isSet : ByteArray := prog_27_method_8_code
def yX3_isSet : MethodName := ⟨RX3, "isSet", "(I)Z"⟩
def dkwX3_isSet_0 : List UInt8 := [26, 3, 17, 0, 255, 184, 0, 45, 172]
abbrev dktX3_isSet_0 : List UInt8 := dkwX3_isSet_0 ++ []
theorem dksX3_isSet_0 : cX3_isSet.data.toList.drop 0 = dktX3_isSet_0 := by decide +kernel
theorem dX3_isSet_0 : decode cX3_isSet 0 = .ok (.iload_n 0, 1) := dk_26 (dk_at dksX3_isSet_0 0 rfl rfl)
theorem dX3_isSet_1 : decode cX3_isSet 1 = .ok (.iconst 0, 1) := dk_3 (dk_at dksX3_isSet_0 1 rfl rfl)
theorem dX3_isSet_2 : decode cX3_isSet 2 = .ok (.sipush 255, 3) := dk_17 0 255 (dk_at dksX3_isSet_0 2 rfl rfl)
theorem dX3_isSet_5 : decode cX3_isSet 5 = .ok (.invokestatic 45, 3) := dk_184 0 45 (dk_at dksX3_isSet_0 5 rfl rfl)
theorem dX3_isSet_8 : decode cX3_isSet 8 = .ok (.ireturn, 1) := dk_172 (dk_at dksX3_isSet_0 8 rfl rfl)
abbrev cX3_lacksOpen : ByteArray := prog_27_method_48_code
def yX3_lacksOpen : MethodName := ⟨RX3, "lacksOpen", "(II)I"⟩
def dkwX3_lacksOpen_1 : List UInt8 := [154, 0, 5, 6, 172, 42, 27, 28, 182, 0, 162, 154, 0, 11, 42, 27, 28, 182, 0, 165, 7, 172, 3, 172]
abbrev dktX3_lacksOpen_1 : List UInt8 := dkwX3_lacksOpen_1 ++ []
def dkwX3_lacksOpen_0 : List UInt8 := [27, 184, 0, 107, 154, 0, 5, 4, 172, 28, 184, 0, 159, 154, 0, 5, 5, 172, 42, 27, 3, 182, 0, 49]
abbrev dktX3_lacksOpen_0 : List UInt8 := dkwX3_lacksOpen_0 ++ dktX3_lacksOpen_1
theorem dksX3_lacksOpen_0 : cX3_lacksOpen.data.toList.drop 0 = dktX3_lacksOpen_0 := by decide +kernel
theorem dksX3_lacksOpen_1 : cX3_lacksOpen.data.toList.drop 24 = dktX3_lacksOpen_1 := dk_seg dksX3_lacksOpen_0 24 rfl rfl
theorem dX3_lacksOpen_0 : decode cX3_lacksOpen 0 = .ok (.iload_n 1, 1) := dk_27 (dk_at dksX3_lacksOpen_0 0 rfl rfl)
theorem dX3_lacksOpen_1 : decode cX3_lacksOpen 1 = .ok (.invokestatic 107, 3) := dk_184 0 107 (dk_at dksX3_lacksOpen_0 1 rfl rfl)
theorem dX3_lacksOpen_4 : decode cX3_lacksOpen 4 = .ok (.ifCond .ne 5, 3) := dk_154 0 5 (dk_at dksX3_lacksOpen_0 4 rfl rfl)
theorem dX3_lacksOpen_7 : decode cX3_lacksOpen 7 = .ok (.iconst 1, 1) := dk_4 (dk_at dksX3_lacksOpen_0 7 rfl rfl)
theorem dX3_lacksOpen_8 : decode cX3_lacksOpen 8 = .ok (.ireturn, 1) := dk_172 (dk_at dksX3_lacksOpen_0 8 rfl rfl)
theorem dX3_lacksOpen_9 : decode cX3_lacksOpen 9 = .ok (.iload_n 2, 1) := dk_28 (dk_at dksX3_lacksOpen_0 9 rfl rfl)
theorem dX3_lacksOpen_10 : decode cX3_lacksOpen 10 = .ok (.invokestatic 159, 3) := dk_184 0 159 (dk_at dksX3_lacksOpen_0 10 rfl rfl)
theorem dX3_lacksOpen_13 : decode cX3_lacksOpen 13 = .ok (.ifCond .ne 5, 3) := dk_154 0 5 (dk_at dksX3_lacksOpen_0 13 rfl rfl)
theorem dX3_lacksOpen_16 : decode cX3_lacksOpen 16 = .ok (.iconst 2, 1) := dk_5 (dk_at dksX3_lacksOpen_0 16 rfl rfl)
theorem dX3_lacksOpen_17 : decode cX3_lacksOpen 17 = .ok (.ireturn, 1) := dk_172 (dk_at dksX3_lacksOpen_0 17 rfl rfl)
theorem dX3_lacksOpen_18 : decode cX3_lacksOpen 18 = .ok (.aload_n 0, 1) := dk_42 (dk_at dksX3_lacksOpen_0 18 rfl rfl)
theorem dX3_lacksOpen_19 : decode cX3_lacksOpen 19 = .ok (.iload_n 1, 1) := dk_27 (dk_at dksX3_lacksOpen_0 19 rfl rfl)
theorem dX3_lacksOpen_20 : decode cX3_lacksOpen 20 = .ok (.iconst 0, 1) := dk_3 (dk_at dksX3_lacksOpen_0 20 rfl rfl)
theorem dX3_lacksOpen_21 : decode cX3_lacksOpen 21 = .ok (.invokevirtual 49, 3) := dk_182 0 49 (dk_at dksX3_lacksOpen_0 21 rfl rfl)
theorem dX3_lacksOpen_24 : decode cX3_lacksOpen 24 = .ok (.ifCond .ne 5, 3) := dk_154 0 5 (dk_at dksX3_lacksOpen_1 0 rfl rfl)
theorem dX3_lacksOpen_27 : decode cX3_lacksOpen 27 = .ok (.iconst 3, 1) := dk_6 (dk_at dksX3_lacksOpen_1 3 rfl rfl)
theorem dX3_lacksOpen_28 : decode cX3_lacksOpen 28 = .ok (.ireturn, 1) := dk_172 (dk_at dksX3_lacksOpen_1 4 rfl rfl)
theorem dX3_lacksOpen_29 : decode cX3_lacksOpen 29 = .ok (.aload_n 0, 1) := dk_42 (dk_at dksX3_lacksOpen_1 5 rfl rfl)
theorem dX3_lacksOpen_30 : decode cX3_lacksOpen 30 = .ok (.iload_n 1, 1) := dk_27 (dk_at dksX3_lacksOpen_1 6 rfl rfl)
theorem dX3_lacksOpen_31 : decode cX3_lacksOpen 31 = .ok (.iload_n 2, 1) := dk_28 (dk_at dksX3_lacksOpen_1 7 rfl rfl)
theorem dX3_lacksOpen_32 : decode cX3_lacksOpen 32 = .ok (.invokevirtual 162, 3) := dk_182 0 162 (dk_at dksX3_lacksOpen_1 8 rfl rfl)
theorem dX3_lacksOpen_35 : decode cX3_lacksOpen 35 = .ok (.ifCond .ne 11, 3) := dk_154 0 11 (dk_at dksX3_lacksOpen_1 11 rfl rfl)
theorem dX3_lacksOpen_38 : decode cX3_lacksOpen 38 = .ok (.aload_n 0, 1) := dk_42 (dk_at dksX3_lacksOpen_1 14 rfl rfl)
theorem dX3_lacksOpen_39 : decode cX3_lacksOpen 39 = .ok (.iload_n 1, 1) := dk_27 (dk_at dksX3_lacksOpen_1 15 rfl rfl)
theorem dX3_lacksOpen_40 : decode cX3_lacksOpen 40 = .ok (.iload_n 2, 1) := dk_28 (dk_at dksX3_lacksOpen_1 16 rfl rfl)
theorem dX3_lacksOpen_41 : decode cX3_lacksOpen 41 = .ok (.invokevirtual 165, 3) := dk_182 0 165 (dk_at dksX3_lacksOpen_1 17 rfl rfl)
theorem dX3_lacksOpen_44 : decode cX3_lacksOpen 44 = .ok (.iconst 4, 1) := dk_7 (dk_at dksX3_lacksOpen_1 20 rfl rfl)
theorem dX3_lacksOpen_45 : decode cX3_lacksOpen 45 = .ok (.ireturn, 1) := dk_172 (dk_at dksX3_lacksOpen_1 21 rfl rfl)
theorem dX3_lacksOpen_46 : decode cX3_lacksOpen 46 = .ok (.iconst 0, 1) := dk_3 (dk_at dksX3_lacksOpen_1 22 rfl rfl)
theorem dX3_lacksOpen_47 : decode cX3_lacksOpen 47 = .ok (.ireturn, 1) := dk_172 (dk_at dksX3_lacksOpen_1 23 rfl rfl)
abbrev cX3_opens : ByteArray := prog_27_method_45_code
def yX3_opens : MethodName := ⟨RX3, "opens", "(II)Z"⟩
def dkwX3_opens_1 : List UInt8 := [180, 0, 127, 42, 27, 4, 182, 0, 49, 161, 0, 7, 4, 167, 0, 4, 3, 172]
abbrev dktX3_opens_1 : List UInt8 := dkwX3_opens_1 ++ []
def dkwX3_opens_0 : List UInt8 := [42, 28, 182, 0, 143, 62, 42, 27, 29, 4, 182, 0, 146, 42, 27, 29, 182, 0, 150, 153, 0, 20, 42]
abbrev dktX3_opens_0 : List UInt8 := dkwX3_opens_0 ++ dktX3_opens_1
theorem dksX3_opens_0 : cX3_opens.data.toList.drop 0 = dktX3_opens_0 := by decide +kernel
theorem dksX3_opens_1 : cX3_opens.data.toList.drop 23 = dktX3_opens_1 := dk_seg dksX3_opens_0 23 rfl rfl
theorem dX3_opens_0 : decode cX3_opens 0 = .ok (.aload_n 0, 1) := dk_42 (dk_at dksX3_opens_0 0 rfl rfl)
theorem dX3_opens_1 : decode cX3_opens 1 = .ok (.iload_n 2, 1) := dk_28 (dk_at dksX3_opens_0 1 rfl rfl)
theorem dX3_opens_2 : decode cX3_opens 2 = .ok (.invokevirtual 143, 3) := dk_182 0 143 (dk_at dksX3_opens_0 2 rfl rfl)
theorem dX3_opens_5 : decode cX3_opens 5 = .ok (.istore_n 3, 1) := dk_62 (dk_at dksX3_opens_0 5 rfl rfl)
theorem dX3_opens_6 : decode cX3_opens 6 = .ok (.aload_n 0, 1) := dk_42 (dk_at dksX3_opens_0 6 rfl rfl)
theorem dX3_opens_7 : decode cX3_opens 7 = .ok (.iload_n 1, 1) := dk_27 (dk_at dksX3_opens_0 7 rfl rfl)
theorem dX3_opens_8 : decode cX3_opens 8 = .ok (.iload_n 3, 1) := dk_29 (dk_at dksX3_opens_0 8 rfl rfl)
theorem dX3_opens_9 : decode cX3_opens 9 = .ok (.iconst 1, 1) := dk_4 (dk_at dksX3_opens_0 9 rfl rfl)
theorem dX3_opens_10 : decode cX3_opens 10 = .ok (.invokevirtual 146, 3) := dk_182 0 146 (dk_at dksX3_opens_0 10 rfl rfl)
theorem dX3_opens_13 : decode cX3_opens 13 = .ok (.aload_n 0, 1) := dk_42 (dk_at dksX3_opens_0 13 rfl rfl)
theorem dX3_opens_14 : decode cX3_opens 14 = .ok (.iload_n 1, 1) := dk_27 (dk_at dksX3_opens_0 14 rfl rfl)
theorem dX3_opens_15 : decode cX3_opens 15 = .ok (.iload_n 3, 1) := dk_29 (dk_at dksX3_opens_0 15 rfl rfl)
theorem dX3_opens_16 : decode cX3_opens 16 = .ok (.invokevirtual 150, 3) := dk_182 0 150 (dk_at dksX3_opens_0 16 rfl rfl)
theorem dX3_opens_19 : decode cX3_opens 19 = .ok (.ifCond .eq 20, 3) := dk_153 0 20 (dk_at dksX3_opens_0 19 rfl rfl)
theorem dX3_opens_22 : decode cX3_opens 22 = .ok (.aload_n 0, 1) := dk_42 (dk_at dksX3_opens_0 22 rfl rfl)
theorem dX3_opens_23 : decode cX3_opens 23 = .ok (.getfield 127, 3) := dk_180 0 127 (dk_at dksX3_opens_1 0 rfl rfl)
theorem dX3_opens_26 : decode cX3_opens 26 = .ok (.aload_n 0, 1) := dk_42 (dk_at dksX3_opens_1 3 rfl rfl)
theorem dX3_opens_27 : decode cX3_opens 27 = .ok (.iload_n 1, 1) := dk_27 (dk_at dksX3_opens_1 4 rfl rfl)
theorem dX3_opens_28 : decode cX3_opens 28 = .ok (.iconst 1, 1) := dk_4 (dk_at dksX3_opens_1 5 rfl rfl)
theorem dX3_opens_29 : decode cX3_opens 29 = .ok (.invokevirtual 49, 3) := dk_182 0 49 (dk_at dksX3_opens_1 6 rfl rfl)
theorem dX3_opens_32 : decode cX3_opens 32 = .ok (.if_icmp .lt 7, 3) := dk_161 0 7 (dk_at dksX3_opens_1 9 rfl rfl)
theorem dX3_opens_35 : decode cX3_opens 35 = .ok (.iconst 1, 1) := dk_4 (dk_at dksX3_opens_1 12 rfl rfl)
theorem dX3_opens_36 : decode cX3_opens 36 = .ok (.goto 4, 3) := dk_167 0 4 (dk_at dksX3_opens_1 13 rfl rfl)
theorem dX3_opens_39 : decode cX3_opens 39 = .ok (.iconst 0, 1) := dk_3 (dk_at dksX3_opens_1 16 rfl rfl)
theorem dX3_opens_40 : decode cX3_opens 40 = .ok (.ireturn, 1) := dk_172 (dk_at dksX3_opens_1 17 rfl rfl)
abbrev cX3_taken : ByteArray := prog_27_method_44_code
def yX3_taken : MethodName := ⟨RX3, "taken", "(I)I"⟩
def dkwX3_taken_1 : List UInt8 := [182, 0, 83, 153, 0, 9, 4, 29, 120, 167, 0, 4, 3, 128, 61, 132, 3, 1, 167, 255, 220, 28, 172]
abbrev dktX3_taken_1 : List UInt8 := dkwX3_taken_1 ++ []
def dkwX3_taken_0 : List UInt8 := [3, 61, 3, 62, 29, 16, 8, 162, 0, 36, 28, 27, 29, 122, 4, 126, 4, 160, 0, 17, 42, 29]
abbrev dktX3_taken_0 : List UInt8 := dkwX3_taken_0 ++ dktX3_taken_1
theorem dksX3_taken_0 : cX3_taken.data.toList.drop 0 = dktX3_taken_0 := by decide +kernel
theorem dksX3_taken_1 : cX3_taken.data.toList.drop 22 = dktX3_taken_1 := dk_seg dksX3_taken_0 22 rfl rfl
theorem dX3_taken_0 : decode cX3_taken 0 = .ok (.iconst 0, 1) := dk_3 (dk_at dksX3_taken_0 0 rfl rfl)
theorem dX3_taken_1 : decode cX3_taken 1 = .ok (.istore_n 2, 1) := dk_61 (dk_at dksX3_taken_0 1 rfl rfl)
theorem dX3_taken_2 : decode cX3_taken 2 = .ok (.iconst 0, 1) := dk_3 (dk_at dksX3_taken_0 2 rfl rfl)
theorem dX3_taken_3 : decode cX3_taken 3 = .ok (.istore_n 3, 1) := dk_62 (dk_at dksX3_taken_0 3 rfl rfl)
theorem dX3_taken_4 : decode cX3_taken 4 = .ok (.iload_n 3, 1) := dk_29 (dk_at dksX3_taken_0 4 rfl rfl)
theorem dX3_taken_5 : decode cX3_taken 5 = .ok (.bipush 8, 2) := dk_16 8 (dk_at dksX3_taken_0 5 rfl rfl)
theorem dX3_taken_7 : decode cX3_taken 7 = .ok (.if_icmp .ge 36, 3) := dk_162 0 36 (dk_at dksX3_taken_0 7 rfl rfl)
theorem dX3_taken_10 : decode cX3_taken 10 = .ok (.iload_n 2, 1) := dk_28 (dk_at dksX3_taken_0 10 rfl rfl)
theorem dX3_taken_11 : decode cX3_taken 11 = .ok (.iload_n 1, 1) := dk_27 (dk_at dksX3_taken_0 11 rfl rfl)
theorem dX3_taken_12 : decode cX3_taken 12 = .ok (.iload_n 3, 1) := dk_29 (dk_at dksX3_taken_0 12 rfl rfl)
theorem dX3_taken_13 : decode cX3_taken 13 = .ok (.ishr, 1) := dk_122 (dk_at dksX3_taken_0 13 rfl rfl)
theorem dX3_taken_14 : decode cX3_taken 14 = .ok (.iconst 1, 1) := dk_4 (dk_at dksX3_taken_0 14 rfl rfl)
theorem dX3_taken_15 : decode cX3_taken 15 = .ok (.iand, 1) := dk_126 (dk_at dksX3_taken_0 15 rfl rfl)
theorem dX3_taken_16 : decode cX3_taken 16 = .ok (.iconst 1, 1) := dk_4 (dk_at dksX3_taken_0 16 rfl rfl)
theorem dX3_taken_17 : decode cX3_taken 17 = .ok (.if_icmp .ne 17, 3) := dk_160 0 17 (dk_at dksX3_taken_0 17 rfl rfl)
theorem dX3_taken_20 : decode cX3_taken 20 = .ok (.aload_n 0, 1) := dk_42 (dk_at dksX3_taken_0 20 rfl rfl)
theorem dX3_taken_21 : decode cX3_taken 21 = .ok (.iload_n 3, 1) := dk_29 (dk_at dksX3_taken_0 21 rfl rfl)
theorem dX3_taken_22 : decode cX3_taken 22 = .ok (.invokevirtual 83, 3) := dk_182 0 83 (dk_at dksX3_taken_1 0 rfl rfl)
theorem dX3_taken_25 : decode cX3_taken 25 = .ok (.ifCond .eq 9, 3) := dk_153 0 9 (dk_at dksX3_taken_1 3 rfl rfl)
theorem dX3_taken_28 : decode cX3_taken 28 = .ok (.iconst 1, 1) := dk_4 (dk_at dksX3_taken_1 6 rfl rfl)
theorem dX3_taken_29 : decode cX3_taken 29 = .ok (.iload_n 3, 1) := dk_29 (dk_at dksX3_taken_1 7 rfl rfl)
theorem dX3_taken_30 : decode cX3_taken 30 = .ok (.ishl, 1) := dk_120 (dk_at dksX3_taken_1 8 rfl rfl)
theorem dX3_taken_31 : decode cX3_taken 31 = .ok (.goto 4, 3) := dk_167 0 4 (dk_at dksX3_taken_1 9 rfl rfl)
theorem dX3_taken_34 : decode cX3_taken 34 = .ok (.iconst 0, 1) := dk_3 (dk_at dksX3_taken_1 12 rfl rfl)
theorem dX3_taken_35 : decode cX3_taken 35 = .ok (.ior, 1) := dk_128 (dk_at dksX3_taken_1 13 rfl rfl)
theorem dX3_taken_36 : decode cX3_taken 36 = .ok (.istore_n 2, 1) := dk_61 (dk_at dksX3_taken_1 14 rfl rfl)
theorem dX3_taken_37 : decode cX3_taken 37 = .ok (.iinc 3 1, 3) := dk_132 3 1 (dk_at dksX3_taken_1 15 rfl rfl)
theorem dX3_taken_40 : decode cX3_taken 40 = .ok (.goto (-36), 3) := dk_167 255 220 (dk_at dksX3_taken_1 18 rfl rfl)
theorem dX3_taken_43 : decode cX3_taken 43 = .ok (.iload_n 2, 1) := dk_28 (dk_at dksX3_taken_1 21 rfl rfl)
theorem dX3_taken_44 : decode cX3_taken 44 = .ok (.ireturn, 1) := dk_172 (dk_at dksX3_taken_1 22 rfl rfl)
abbrev cX3_tellNodes : ByteArray := prog_27_method_38_code
def yX3_tellNodes : MethodName := ⟨RX3, "tellNodes", "(IIZ)V"⟩
def dkwX3_tellNodes_3 : List UInt8 := [181, 0, 127, 132, 4, 1, 167, 255, 188, 177]
abbrev dktX3_tellNodes_3 : List UInt8 := dkwX3_tellNodes_3 ++ []
def dkwX3_tellNodes_2 : List UInt8 := [182, 0, 90, 154, 0, 24, 42, 180, 0, 19, 42, 180, 0, 127, 21, 4, 79, 42, 89, 180, 0, 127, 4, 96]
abbrev dktX3_tellNodes_2 : List UInt8 := dkwX3_tellNodes_2 ++ dktX3_tellNodes_3
def dkwX3_tellNodes_1 : List UInt8 := [4, 160, 0, 48, 42, 27, 21, 4, 182, 0, 86, 153, 0, 38, 29, 153, 0, 13, 42, 27, 21, 4]
abbrev dktX3_tellNodes_1 : List UInt8 := dkwX3_tellNodes_1 ++ dktX3_tellNodes_2
def dkwX3_tellNodes_0 : List UInt8 := [42, 3, 181, 0, 127, 4, 54, 4, 21, 4, 16, 24, 163, 0, 67, 28, 21, 4, 184, 0, 61, 122, 4, 126]
abbrev dktX3_tellNodes_0 : List UInt8 := dkwX3_tellNodes_0 ++ dktX3_tellNodes_1
theorem dksX3_tellNodes_0 : cX3_tellNodes.data.toList.drop 0 = dktX3_tellNodes_0 := by decide +kernel
theorem dksX3_tellNodes_1 : cX3_tellNodes.data.toList.drop 24 = dktX3_tellNodes_1 := dk_seg dksX3_tellNodes_0 24 rfl rfl
theorem dksX3_tellNodes_2 : cX3_tellNodes.data.toList.drop 46 = dktX3_tellNodes_2 := dk_seg dksX3_tellNodes_1 22 rfl rfl
theorem dksX3_tellNodes_3 : cX3_tellNodes.data.toList.drop 70 = dktX3_tellNodes_3 := dk_seg dksX3_tellNodes_2 24 rfl rfl
theorem dX3_tellNodes_0 : decode cX3_tellNodes 0 = .ok (.aload_n 0, 1) := dk_42 (dk_at dksX3_tellNodes_0 0 rfl rfl)
theorem dX3_tellNodes_1 : decode cX3_tellNodes 1 = .ok (.iconst 0, 1) := dk_3 (dk_at dksX3_tellNodes_0 1 rfl rfl)
theorem dX3_tellNodes_2 : decode cX3_tellNodes 2 = .ok (.putfield 127, 3) := dk_181 0 127 (dk_at dksX3_tellNodes_0 2 rfl rfl)
theorem dX3_tellNodes_5 : decode cX3_tellNodes 5 = .ok (.iconst 1, 1) := dk_4 (dk_at dksX3_tellNodes_0 5 rfl rfl)
theorem dX3_tellNodes_6 : decode cX3_tellNodes 6 = .ok (.istore 4, 2) := dk_54 4 (dk_at dksX3_tellNodes_0 6 rfl rfl)
theorem dX3_tellNodes_8 : decode cX3_tellNodes 8 = .ok (.iload 4, 2) := dk_21 4 (dk_at dksX3_tellNodes_0 8 rfl rfl)
theorem dX3_tellNodes_10 : decode cX3_tellNodes 10 = .ok (.bipush 24, 2) := dk_16 24 (dk_at dksX3_tellNodes_0 10 rfl rfl)
theorem dX3_tellNodes_12 : decode cX3_tellNodes 12 = .ok (.if_icmp .gt 67, 3) := dk_163 0 67 (dk_at dksX3_tellNodes_0 12 rfl rfl)
theorem dX3_tellNodes_15 : decode cX3_tellNodes 15 = .ok (.iload_n 2, 1) := dk_28 (dk_at dksX3_tellNodes_0 15 rfl rfl)
theorem dX3_tellNodes_16 : decode cX3_tellNodes 16 = .ok (.iload 4, 2) := dk_21 4 (dk_at dksX3_tellNodes_0 16 rfl rfl)
theorem dX3_tellNodes_18 : decode cX3_tellNodes 18 = .ok (.invokestatic 61, 3) := dk_184 0 61 (dk_at dksX3_tellNodes_0 18 rfl rfl)
theorem dX3_tellNodes_21 : decode cX3_tellNodes 21 = .ok (.ishr, 1) := dk_122 (dk_at dksX3_tellNodes_0 21 rfl rfl)
theorem dX3_tellNodes_22 : decode cX3_tellNodes 22 = .ok (.iconst 1, 1) := dk_4 (dk_at dksX3_tellNodes_0 22 rfl rfl)
theorem dX3_tellNodes_23 : decode cX3_tellNodes 23 = .ok (.iand, 1) := dk_126 (dk_at dksX3_tellNodes_0 23 rfl rfl)
theorem dX3_tellNodes_24 : decode cX3_tellNodes 24 = .ok (.iconst 1, 1) := dk_4 (dk_at dksX3_tellNodes_1 0 rfl rfl)
theorem dX3_tellNodes_25 : decode cX3_tellNodes 25 = .ok (.if_icmp .ne 48, 3) := dk_160 0 48 (dk_at dksX3_tellNodes_1 1 rfl rfl)
theorem dX3_tellNodes_28 : decode cX3_tellNodes 28 = .ok (.aload_n 0, 1) := dk_42 (dk_at dksX3_tellNodes_1 4 rfl rfl)
theorem dX3_tellNodes_29 : decode cX3_tellNodes 29 = .ok (.iload_n 1, 1) := dk_27 (dk_at dksX3_tellNodes_1 5 rfl rfl)
theorem dX3_tellNodes_30 : decode cX3_tellNodes 30 = .ok (.iload 4, 2) := dk_21 4 (dk_at dksX3_tellNodes_1 6 rfl rfl)
theorem dX3_tellNodes_32 : decode cX3_tellNodes 32 = .ok (.invokevirtual 86, 3) := dk_182 0 86 (dk_at dksX3_tellNodes_1 8 rfl rfl)
theorem dX3_tellNodes_35 : decode cX3_tellNodes 35 = .ok (.ifCond .eq 38, 3) := dk_153 0 38 (dk_at dksX3_tellNodes_1 11 rfl rfl)
theorem dX3_tellNodes_38 : decode cX3_tellNodes 38 = .ok (.iload_n 3, 1) := dk_29 (dk_at dksX3_tellNodes_1 14 rfl rfl)
theorem dX3_tellNodes_39 : decode cX3_tellNodes 39 = .ok (.ifCond .eq 13, 3) := dk_153 0 13 (dk_at dksX3_tellNodes_1 15 rfl rfl)
theorem dX3_tellNodes_42 : decode cX3_tellNodes 42 = .ok (.aload_n 0, 1) := dk_42 (dk_at dksX3_tellNodes_1 18 rfl rfl)
theorem dX3_tellNodes_43 : decode cX3_tellNodes 43 = .ok (.iload_n 1, 1) := dk_27 (dk_at dksX3_tellNodes_1 19 rfl rfl)
theorem dX3_tellNodes_44 : decode cX3_tellNodes 44 = .ok (.iload 4, 2) := dk_21 4 (dk_at dksX3_tellNodes_1 20 rfl rfl)
theorem dX3_tellNodes_46 : decode cX3_tellNodes 46 = .ok (.invokevirtual 90, 3) := dk_182 0 90 (dk_at dksX3_tellNodes_2 0 rfl rfl)
theorem dX3_tellNodes_49 : decode cX3_tellNodes 49 = .ok (.ifCond .ne 24, 3) := dk_154 0 24 (dk_at dksX3_tellNodes_2 3 rfl rfl)
theorem dX3_tellNodes_52 : decode cX3_tellNodes 52 = .ok (.aload_n 0, 1) := dk_42 (dk_at dksX3_tellNodes_2 6 rfl rfl)
theorem dX3_tellNodes_53 : decode cX3_tellNodes 53 = .ok (.getfield 19, 3) := dk_180 0 19 (dk_at dksX3_tellNodes_2 7 rfl rfl)
theorem dX3_tellNodes_56 : decode cX3_tellNodes 56 = .ok (.aload_n 0, 1) := dk_42 (dk_at dksX3_tellNodes_2 10 rfl rfl)
theorem dX3_tellNodes_57 : decode cX3_tellNodes 57 = .ok (.getfield 127, 3) := dk_180 0 127 (dk_at dksX3_tellNodes_2 11 rfl rfl)
theorem dX3_tellNodes_60 : decode cX3_tellNodes 60 = .ok (.iload 4, 2) := dk_21 4 (dk_at dksX3_tellNodes_2 14 rfl rfl)
theorem dX3_tellNodes_62 : decode cX3_tellNodes 62 = .ok (.iastore, 1) := dk_79 (dk_at dksX3_tellNodes_2 16 rfl rfl)
theorem dX3_tellNodes_63 : decode cX3_tellNodes 63 = .ok (.aload_n 0, 1) := dk_42 (dk_at dksX3_tellNodes_2 17 rfl rfl)
theorem dX3_tellNodes_64 : decode cX3_tellNodes 64 = .ok (.dup, 1) := dk_89 (dk_at dksX3_tellNodes_2 18 rfl rfl)
theorem dX3_tellNodes_65 : decode cX3_tellNodes 65 = .ok (.getfield 127, 3) := dk_180 0 127 (dk_at dksX3_tellNodes_2 19 rfl rfl)
theorem dX3_tellNodes_68 : decode cX3_tellNodes 68 = .ok (.iconst 1, 1) := dk_4 (dk_at dksX3_tellNodes_2 22 rfl rfl)
theorem dX3_tellNodes_69 : decode cX3_tellNodes 69 = .ok (.iadd, 1) := dk_96 (dk_at dksX3_tellNodes_2 23 rfl rfl)
theorem dX3_tellNodes_70 : decode cX3_tellNodes 70 = .ok (.putfield 127, 3) := dk_181 0 127 (dk_at dksX3_tellNodes_3 0 rfl rfl)
theorem dX3_tellNodes_73 : decode cX3_tellNodes 73 = .ok (.iinc 4 1, 3) := dk_132 4 1 (dk_at dksX3_tellNodes_3 3 rfl rfl)
theorem dX3_tellNodes_76 : decode cX3_tellNodes 76 = .ok (.goto (-68), 3) := dk_167 255 188 (dk_at dksX3_tellNodes_3 6 rfl rfl)
theorem dX3_tellNodes_79 : decode cX3_tellNodes 79 = .ok (.return_, 1) := dk_177 (dk_at dksX3_tellNodes_3 9 rfl rfl)
abbrev cX3_fulfilled : ByteArray := prog_27_method_43_code
def yX3_fulfilled : MethodName := ⟨RX3, "fulfilled", "(II)Z"⟩
def dkwX3_fulfilled_1 : List UInt8 := [153, 0, 7, 4, 167, 0, 4, 3, 172]
abbrev dktX3_fulfilled_1 : List UInt8 := dkwX3_fulfilled_1 ++ []
def dkwX3_fulfilled_0 : List UInt8 := [42, 27, 182, 0, 140, 153, 0, 20, 42, 27, 3, 42, 27, 16, 11, 182, 0, 49, 28, 184, 0, 133]
abbrev dktX3_fulfilled_0 : List UInt8 := dkwX3_fulfilled_0 ++ dktX3_fulfilled_1
theorem dksX3_fulfilled_0 : cX3_fulfilled.data.toList.drop 0 = dktX3_fulfilled_0 := by decide +kernel
theorem dksX3_fulfilled_1 : cX3_fulfilled.data.toList.drop 22 = dktX3_fulfilled_1 := dk_seg dksX3_fulfilled_0 22 rfl rfl
theorem dX3_fulfilled_0 : decode cX3_fulfilled 0 = .ok (.aload_n 0, 1) := dk_42 (dk_at dksX3_fulfilled_0 0 rfl rfl)
theorem dX3_fulfilled_1 : decode cX3_fulfilled 1 = .ok (.iload_n 1, 1) := dk_27 (dk_at dksX3_fulfilled_0 1 rfl rfl)
theorem dX3_fulfilled_2 : decode cX3_fulfilled 2 = .ok (.invokevirtual 140, 3) := dk_182 0 140 (dk_at dksX3_fulfilled_0 2 rfl rfl)
theorem dX3_fulfilled_5 : decode cX3_fulfilled 5 = .ok (.ifCond .eq 20, 3) := dk_153 0 20 (dk_at dksX3_fulfilled_0 5 rfl rfl)
theorem dX3_fulfilled_8 : decode cX3_fulfilled 8 = .ok (.aload_n 0, 1) := dk_42 (dk_at dksX3_fulfilled_0 8 rfl rfl)
theorem dX3_fulfilled_9 : decode cX3_fulfilled 9 = .ok (.iload_n 1, 1) := dk_27 (dk_at dksX3_fulfilled_0 9 rfl rfl)
theorem dX3_fulfilled_10 : decode cX3_fulfilled 10 = .ok (.iconst 0, 1) := dk_3 (dk_at dksX3_fulfilled_0 10 rfl rfl)
theorem dX3_fulfilled_11 : decode cX3_fulfilled 11 = .ok (.aload_n 0, 1) := dk_42 (dk_at dksX3_fulfilled_0 11 rfl rfl)
theorem dX3_fulfilled_12 : decode cX3_fulfilled 12 = .ok (.iload_n 1, 1) := dk_27 (dk_at dksX3_fulfilled_0 12 rfl rfl)
theorem dX3_fulfilled_13 : decode cX3_fulfilled 13 = .ok (.bipush 11, 2) := dk_16 11 (dk_at dksX3_fulfilled_0 13 rfl rfl)
theorem dX3_fulfilled_15 : decode cX3_fulfilled 15 = .ok (.invokevirtual 49, 3) := dk_182 0 49 (dk_at dksX3_fulfilled_0 15 rfl rfl)
theorem dX3_fulfilled_18 : decode cX3_fulfilled 18 = .ok (.iload_n 2, 1) := dk_28 (dk_at dksX3_fulfilled_0 18 rfl rfl)
theorem dX3_fulfilled_19 : decode cX3_fulfilled 19 = .ok (.invokestatic 133, 3) := dk_184 0 133 (dk_at dksX3_fulfilled_0 19 rfl rfl)
theorem dX3_fulfilled_22 : decode cX3_fulfilled 22 = .ok (.ifCond .eq 7, 3) := dk_153 0 7 (dk_at dksX3_fulfilled_1 0 rfl rfl)
theorem dX3_fulfilled_25 : decode cX3_fulfilled 25 = .ok (.iconst 1, 1) := dk_4 (dk_at dksX3_fulfilled_1 3 rfl rfl)
theorem dX3_fulfilled_26 : decode cX3_fulfilled 26 = .ok (.goto 4, 3) := dk_167 0 4 (dk_at dksX3_fulfilled_1 4 rfl rfl)
theorem dX3_fulfilled_29 : decode cX3_fulfilled 29 = .ok (.iconst 0, 1) := dk_3 (dk_at dksX3_fulfilled_1 7 rfl rfl)
theorem dX3_fulfilled_30 : decode cX3_fulfilled 30 = .ok (.ireturn, 1) := dk_172 (dk_at dksX3_fulfilled_1 8 rfl rfl)
abbrev cX3_hasPolicy : ByteArray := prog_27_method_42_code
def yX3_hasPolicy : MethodName := ⟨RX3, "hasPolicy", "(I)Z"⟩
def dkwX3_hasPolicy_0 : List UInt8 := [42, 27, 16, 11, 182, 0, 49, 158, 0, 7, 4, 167, 0, 4, 3, 172]
abbrev dktX3_hasPolicy_0 : List UInt8 := dkwX3_hasPolicy_0 ++ []
theorem dksX3_hasPolicy_0 : cX3_hasPolicy.data.toList.drop 0 = dktX3_hasPolicy_0 := by decide +kernel
theorem dX3_hasPolicy_0 : decode cX3_hasPolicy 0 = .ok (.aload_n 0, 1) := dk_42 (dk_at dksX3_hasPolicy_0 0 rfl rfl)
theorem dX3_hasPolicy_1 : decode cX3_hasPolicy 1 = .ok (.iload_n 1, 1) := dk_27 (dk_at dksX3_hasPolicy_0 1 rfl rfl)
theorem dX3_hasPolicy_2 : decode cX3_hasPolicy 2 = .ok (.bipush 11, 2) := dk_16 11 (dk_at dksX3_hasPolicy_0 2 rfl rfl)
theorem dX3_hasPolicy_4 : decode cX3_hasPolicy 4 = .ok (.invokevirtual 49, 3) := dk_182 0 49 (dk_at dksX3_hasPolicy_0 4 rfl rfl)
theorem dX3_hasPolicy_7 : decode cX3_hasPolicy 7 = .ok (.ifCond .le 7, 3) := dk_158 0 7 (dk_at dksX3_hasPolicy_0 7 rfl rfl)
theorem dX3_hasPolicy_10 : decode cX3_hasPolicy 10 = .ok (.iconst 1, 1) := dk_4 (dk_at dksX3_hasPolicy_0 10 rfl rfl)
theorem dX3_hasPolicy_11 : decode cX3_hasPolicy 11 = .ok (.goto 4, 3) := dk_167 0 4 (dk_at dksX3_hasPolicy_0 11 rfl rfl)
theorem dX3_hasPolicy_14 : decode cX3_hasPolicy 14 = .ok (.iconst 0, 1) := dk_3 (dk_at dksX3_hasPolicy_0 14 rfl rfl)
theorem dX3_hasPolicy_15 : decode cX3_hasPolicy 15 = .ok (.ireturn, 1) := dk_172 (dk_at dksX3_hasPolicy_0 15 rfl rfl)
abbrev cX3_holds : ByteArray := prog_27_method_41_code
def yX3_holds : MethodName := ⟨RX3, "holds", "(LSecretVaultModel;IIII)Z"⟩
def dkwX3_holds_10 : List UInt8 := [161, 0, 7, 4, 167, 0, 4, 3, 172]
abbrev dktX3_holds_10 : List UInt8 := dkwX3_holds_10 ++ []
def dkwX3_holds_9 : List UInt8 := [167, 0, 4, 3, 96, 54, 8, 21, 10, 4, 96, 54, 9, 167, 255, 204, 21, 8, 21, 7, 16, 48, 100]
abbrev dktX3_holds_9 : List UInt8 := dkwX3_holds_9 ++ dktX3_holds_10
def dkwX3_holds_8 : List UInt8 := [182, 0, 130, 54, 10, 21, 8, 42, 27, 21, 9, 21, 10, 21, 4, 184, 0, 133, 153, 0, 7, 4]
abbrev dktX3_holds_8 : List UInt8 := dkwX3_holds_8 ++ dktX3_holds_9
def dkwX3_holds_7 : List UInt8 := [54, 8, 28, 7, 96, 54, 9, 21, 9, 29, 4, 100, 162, 0, 50, 42, 27, 21, 9, 29, 4, 100, 16, 44]
abbrev dktX3_holds_7 : List UInt8 := dkwX3_holds_7 ++ dktX3_holds_8
def dkwX3_holds_6 : List UInt8 := [154, 0, 23, 21, 4, 21, 7, 16, 48, 100, 122, 4, 126, 4, 160, 0, 7, 4, 167, 0, 4, 3, 172, 3]
abbrev dktX3_holds_6 : List UInt8 := dkwX3_holds_6 ++ dktX3_holds_7
def dkwX3_holds_5 : List UInt8 := [160, 0, 17, 42, 27, 28, 4, 96, 29, 4, 100, 21, 4, 184, 0, 133, 172, 42, 27, 28, 29, 182, 0, 137]
abbrev dktX3_holds_5 : List UInt8 := dkwX3_holds_5 ++ dktX3_holds_6
def dkwX3_holds_4 : List UInt8 := [153, 0, 7, 4, 167, 0, 4, 3, 172, 42, 27, 16, 12, 28, 96, 182, 0, 49, 54, 7, 21, 7, 16, 40]
abbrev dktX3_holds_4 : List UInt8 := dkwX3_holds_4 ++ dktX3_holds_5
def dkwX3_holds_3 : List UInt8 := [28, 21, 6, 21, 4, 184, 0, 133, 153, 0, 22, 42, 27, 21, 6, 4, 96, 29, 21, 4, 184, 0, 133]
abbrev dktX3_holds_3 : List UInt8 := dkwX3_holds_3 ++ dktX3_holds_4
def dkwX3_holds_2 : List UInt8 := [167, 0, 4, 3, 172, 42, 27, 28, 29, 16, 38, 182, 0, 130, 54, 6, 21, 6, 29, 162, 0, 37, 42, 27]
abbrev dktX3_holds_2 : List UInt8 := dkwX3_holds_2 ++ dktX3_holds_3
def dkwX3_holds_1 : List UInt8 := [184, 0, 133, 154, 0, 18, 42, 27, 21, 5, 4, 96, 29, 21, 4, 184, 0, 133, 153, 0, 7, 4]
abbrev dktX3_holds_1 : List UInt8 := dkwX3_holds_1 ++ dktX3_holds_2
def dkwX3_holds_0 : List UInt8 := [42, 27, 28, 29, 16, 124, 182, 0, 130, 54, 5, 21, 5, 29, 162, 0, 37, 42, 27, 28, 21, 5, 21, 4]
abbrev dktX3_holds_0 : List UInt8 := dkwX3_holds_0 ++ dktX3_holds_1
theorem dksX3_holds_0 : cX3_holds.data.toList.drop 0 = dktX3_holds_0 := by decide +kernel
theorem dksX3_holds_1 : cX3_holds.data.toList.drop 24 = dktX3_holds_1 := dk_seg dksX3_holds_0 24 rfl rfl
theorem dksX3_holds_2 : cX3_holds.data.toList.drop 46 = dktX3_holds_2 := dk_seg dksX3_holds_1 22 rfl rfl
theorem dksX3_holds_3 : cX3_holds.data.toList.drop 70 = dktX3_holds_3 := dk_seg dksX3_holds_2 24 rfl rfl
theorem dksX3_holds_4 : cX3_holds.data.toList.drop 93 = dktX3_holds_4 := dk_seg dksX3_holds_3 23 rfl rfl
theorem dksX3_holds_5 : cX3_holds.data.toList.drop 117 = dktX3_holds_5 := dk_seg dksX3_holds_4 24 rfl rfl
theorem dksX3_holds_6 : cX3_holds.data.toList.drop 141 = dktX3_holds_6 := dk_seg dksX3_holds_5 24 rfl rfl
theorem dksX3_holds_7 : cX3_holds.data.toList.drop 165 = dktX3_holds_7 := dk_seg dksX3_holds_6 24 rfl rfl
theorem dksX3_holds_8 : cX3_holds.data.toList.drop 189 = dktX3_holds_8 := dk_seg dksX3_holds_7 24 rfl rfl
theorem dksX3_holds_9 : cX3_holds.data.toList.drop 211 = dktX3_holds_9 := dk_seg dksX3_holds_8 22 rfl rfl
theorem dksX3_holds_10 : cX3_holds.data.toList.drop 234 = dktX3_holds_10 := dk_seg dksX3_holds_9 23 rfl rfl
theorem dX3_holds_0 : decode cX3_holds 0 = .ok (.aload_n 0, 1) := dk_42 (dk_at dksX3_holds_0 0 rfl rfl)
theorem dX3_holds_1 : decode cX3_holds 1 = .ok (.iload_n 1, 1) := dk_27 (dk_at dksX3_holds_0 1 rfl rfl)
theorem dX3_holds_2 : decode cX3_holds 2 = .ok (.iload_n 2, 1) := dk_28 (dk_at dksX3_holds_0 2 rfl rfl)
theorem dX3_holds_3 : decode cX3_holds 3 = .ok (.iload_n 3, 1) := dk_29 (dk_at dksX3_holds_0 3 rfl rfl)
theorem dX3_holds_4 : decode cX3_holds 4 = .ok (.bipush 124, 2) := dk_16 124 (dk_at dksX3_holds_0 4 rfl rfl)
theorem dX3_holds_6 : decode cX3_holds 6 = .ok (.invokevirtual 130, 3) := dk_182 0 130 (dk_at dksX3_holds_0 6 rfl rfl)
theorem dX3_holds_9 : decode cX3_holds 9 = .ok (.istore 5, 2) := dk_54 5 (dk_at dksX3_holds_0 9 rfl rfl)
theorem dX3_holds_11 : decode cX3_holds 11 = .ok (.iload 5, 2) := dk_21 5 (dk_at dksX3_holds_0 11 rfl rfl)
theorem dX3_holds_13 : decode cX3_holds 13 = .ok (.iload_n 3, 1) := dk_29 (dk_at dksX3_holds_0 13 rfl rfl)
theorem dX3_holds_14 : decode cX3_holds 14 = .ok (.if_icmp .ge 37, 3) := dk_162 0 37 (dk_at dksX3_holds_0 14 rfl rfl)
theorem dX3_holds_17 : decode cX3_holds 17 = .ok (.aload_n 0, 1) := dk_42 (dk_at dksX3_holds_0 17 rfl rfl)
theorem dX3_holds_18 : decode cX3_holds 18 = .ok (.iload_n 1, 1) := dk_27 (dk_at dksX3_holds_0 18 rfl rfl)
theorem dX3_holds_19 : decode cX3_holds 19 = .ok (.iload_n 2, 1) := dk_28 (dk_at dksX3_holds_0 19 rfl rfl)
theorem dX3_holds_20 : decode cX3_holds 20 = .ok (.iload 5, 2) := dk_21 5 (dk_at dksX3_holds_0 20 rfl rfl)
theorem dX3_holds_22 : decode cX3_holds 22 = .ok (.iload 4, 2) := dk_21 4 (dk_at dksX3_holds_0 22 rfl rfl)
theorem dX3_holds_24 : decode cX3_holds 24 = .ok (.invokestatic 133, 3) := dk_184 0 133 (dk_at dksX3_holds_1 0 rfl rfl)
theorem dX3_holds_27 : decode cX3_holds 27 = .ok (.ifCond .ne 18, 3) := dk_154 0 18 (dk_at dksX3_holds_1 3 rfl rfl)
theorem dX3_holds_30 : decode cX3_holds 30 = .ok (.aload_n 0, 1) := dk_42 (dk_at dksX3_holds_1 6 rfl rfl)
theorem dX3_holds_31 : decode cX3_holds 31 = .ok (.iload_n 1, 1) := dk_27 (dk_at dksX3_holds_1 7 rfl rfl)
theorem dX3_holds_32 : decode cX3_holds 32 = .ok (.iload 5, 2) := dk_21 5 (dk_at dksX3_holds_1 8 rfl rfl)
theorem dX3_holds_34 : decode cX3_holds 34 = .ok (.iconst 1, 1) := dk_4 (dk_at dksX3_holds_1 10 rfl rfl)
theorem dX3_holds_35 : decode cX3_holds 35 = .ok (.iadd, 1) := dk_96 (dk_at dksX3_holds_1 11 rfl rfl)
theorem dX3_holds_36 : decode cX3_holds 36 = .ok (.iload_n 3, 1) := dk_29 (dk_at dksX3_holds_1 12 rfl rfl)
theorem dX3_holds_37 : decode cX3_holds 37 = .ok (.iload 4, 2) := dk_21 4 (dk_at dksX3_holds_1 13 rfl rfl)
theorem dX3_holds_39 : decode cX3_holds 39 = .ok (.invokestatic 133, 3) := dk_184 0 133 (dk_at dksX3_holds_1 15 rfl rfl)
theorem dX3_holds_42 : decode cX3_holds 42 = .ok (.ifCond .eq 7, 3) := dk_153 0 7 (dk_at dksX3_holds_1 18 rfl rfl)
theorem dX3_holds_45 : decode cX3_holds 45 = .ok (.iconst 1, 1) := dk_4 (dk_at dksX3_holds_1 21 rfl rfl)
theorem dX3_holds_46 : decode cX3_holds 46 = .ok (.goto 4, 3) := dk_167 0 4 (dk_at dksX3_holds_2 0 rfl rfl)
theorem dX3_holds_49 : decode cX3_holds 49 = .ok (.iconst 0, 1) := dk_3 (dk_at dksX3_holds_2 3 rfl rfl)
theorem dX3_holds_50 : decode cX3_holds 50 = .ok (.ireturn, 1) := dk_172 (dk_at dksX3_holds_2 4 rfl rfl)
theorem dX3_holds_51 : decode cX3_holds 51 = .ok (.aload_n 0, 1) := dk_42 (dk_at dksX3_holds_2 5 rfl rfl)
theorem dX3_holds_52 : decode cX3_holds 52 = .ok (.iload_n 1, 1) := dk_27 (dk_at dksX3_holds_2 6 rfl rfl)
theorem dX3_holds_53 : decode cX3_holds 53 = .ok (.iload_n 2, 1) := dk_28 (dk_at dksX3_holds_2 7 rfl rfl)
theorem dX3_holds_54 : decode cX3_holds 54 = .ok (.iload_n 3, 1) := dk_29 (dk_at dksX3_holds_2 8 rfl rfl)
theorem dX3_holds_55 : decode cX3_holds 55 = .ok (.bipush 38, 2) := dk_16 38 (dk_at dksX3_holds_2 9 rfl rfl)
theorem dX3_holds_57 : decode cX3_holds 57 = .ok (.invokevirtual 130, 3) := dk_182 0 130 (dk_at dksX3_holds_2 11 rfl rfl)
theorem dX3_holds_60 : decode cX3_holds 60 = .ok (.istore 6, 2) := dk_54 6 (dk_at dksX3_holds_2 14 rfl rfl)
theorem dX3_holds_62 : decode cX3_holds 62 = .ok (.iload 6, 2) := dk_21 6 (dk_at dksX3_holds_2 16 rfl rfl)
theorem dX3_holds_64 : decode cX3_holds 64 = .ok (.iload_n 3, 1) := dk_29 (dk_at dksX3_holds_2 18 rfl rfl)
theorem dX3_holds_65 : decode cX3_holds 65 = .ok (.if_icmp .ge 37, 3) := dk_162 0 37 (dk_at dksX3_holds_2 19 rfl rfl)
theorem dX3_holds_68 : decode cX3_holds 68 = .ok (.aload_n 0, 1) := dk_42 (dk_at dksX3_holds_2 22 rfl rfl)
theorem dX3_holds_69 : decode cX3_holds 69 = .ok (.iload_n 1, 1) := dk_27 (dk_at dksX3_holds_2 23 rfl rfl)
theorem dX3_holds_70 : decode cX3_holds 70 = .ok (.iload_n 2, 1) := dk_28 (dk_at dksX3_holds_3 0 rfl rfl)
theorem dX3_holds_71 : decode cX3_holds 71 = .ok (.iload 6, 2) := dk_21 6 (dk_at dksX3_holds_3 1 rfl rfl)
theorem dX3_holds_73 : decode cX3_holds 73 = .ok (.iload 4, 2) := dk_21 4 (dk_at dksX3_holds_3 3 rfl rfl)
theorem dX3_holds_75 : decode cX3_holds 75 = .ok (.invokestatic 133, 3) := dk_184 0 133 (dk_at dksX3_holds_3 5 rfl rfl)
theorem dX3_holds_78 : decode cX3_holds 78 = .ok (.ifCond .eq 22, 3) := dk_153 0 22 (dk_at dksX3_holds_3 8 rfl rfl)
theorem dX3_holds_81 : decode cX3_holds 81 = .ok (.aload_n 0, 1) := dk_42 (dk_at dksX3_holds_3 11 rfl rfl)
theorem dX3_holds_82 : decode cX3_holds 82 = .ok (.iload_n 1, 1) := dk_27 (dk_at dksX3_holds_3 12 rfl rfl)
theorem dX3_holds_83 : decode cX3_holds 83 = .ok (.iload 6, 2) := dk_21 6 (dk_at dksX3_holds_3 13 rfl rfl)
theorem dX3_holds_85 : decode cX3_holds 85 = .ok (.iconst 1, 1) := dk_4 (dk_at dksX3_holds_3 15 rfl rfl)
theorem dX3_holds_86 : decode cX3_holds 86 = .ok (.iadd, 1) := dk_96 (dk_at dksX3_holds_3 16 rfl rfl)
theorem dX3_holds_87 : decode cX3_holds 87 = .ok (.iload_n 3, 1) := dk_29 (dk_at dksX3_holds_3 17 rfl rfl)
theorem dX3_holds_88 : decode cX3_holds 88 = .ok (.iload 4, 2) := dk_21 4 (dk_at dksX3_holds_3 18 rfl rfl)
theorem dX3_holds_90 : decode cX3_holds 90 = .ok (.invokestatic 133, 3) := dk_184 0 133 (dk_at dksX3_holds_3 20 rfl rfl)
theorem dX3_holds_93 : decode cX3_holds 93 = .ok (.ifCond .eq 7, 3) := dk_153 0 7 (dk_at dksX3_holds_4 0 rfl rfl)
theorem dX3_holds_96 : decode cX3_holds 96 = .ok (.iconst 1, 1) := dk_4 (dk_at dksX3_holds_4 3 rfl rfl)
theorem dX3_holds_97 : decode cX3_holds 97 = .ok (.goto 4, 3) := dk_167 0 4 (dk_at dksX3_holds_4 4 rfl rfl)
theorem dX3_holds_100 : decode cX3_holds 100 = .ok (.iconst 0, 1) := dk_3 (dk_at dksX3_holds_4 7 rfl rfl)
theorem dX3_holds_101 : decode cX3_holds 101 = .ok (.ireturn, 1) := dk_172 (dk_at dksX3_holds_4 8 rfl rfl)
theorem dX3_holds_102 : decode cX3_holds 102 = .ok (.aload_n 0, 1) := dk_42 (dk_at dksX3_holds_4 9 rfl rfl)
theorem dX3_holds_103 : decode cX3_holds 103 = .ok (.iload_n 1, 1) := dk_27 (dk_at dksX3_holds_4 10 rfl rfl)
theorem dX3_holds_104 : decode cX3_holds 104 = .ok (.bipush 12, 2) := dk_16 12 (dk_at dksX3_holds_4 11 rfl rfl)
theorem dX3_holds_106 : decode cX3_holds 106 = .ok (.iload_n 2, 1) := dk_28 (dk_at dksX3_holds_4 13 rfl rfl)
theorem dX3_holds_107 : decode cX3_holds 107 = .ok (.iadd, 1) := dk_96 (dk_at dksX3_holds_4 14 rfl rfl)
theorem dX3_holds_108 : decode cX3_holds 108 = .ok (.invokevirtual 49, 3) := dk_182 0 49 (dk_at dksX3_holds_4 15 rfl rfl)
theorem dX3_holds_111 : decode cX3_holds 111 = .ok (.istore 7, 2) := dk_54 7 (dk_at dksX3_holds_4 18 rfl rfl)
theorem dX3_holds_113 : decode cX3_holds 113 = .ok (.iload 7, 2) := dk_21 7 (dk_at dksX3_holds_4 20 rfl rfl)
theorem dX3_holds_115 : decode cX3_holds 115 = .ok (.bipush 40, 2) := dk_16 40 (dk_at dksX3_holds_4 22 rfl rfl)
theorem dX3_holds_117 : decode cX3_holds 117 = .ok (.if_icmp .ne 17, 3) := dk_160 0 17 (dk_at dksX3_holds_5 0 rfl rfl)
theorem dX3_holds_120 : decode cX3_holds 120 = .ok (.aload_n 0, 1) := dk_42 (dk_at dksX3_holds_5 3 rfl rfl)
theorem dX3_holds_121 : decode cX3_holds 121 = .ok (.iload_n 1, 1) := dk_27 (dk_at dksX3_holds_5 4 rfl rfl)
theorem dX3_holds_122 : decode cX3_holds 122 = .ok (.iload_n 2, 1) := dk_28 (dk_at dksX3_holds_5 5 rfl rfl)
theorem dX3_holds_123 : decode cX3_holds 123 = .ok (.iconst 1, 1) := dk_4 (dk_at dksX3_holds_5 6 rfl rfl)
theorem dX3_holds_124 : decode cX3_holds 124 = .ok (.iadd, 1) := dk_96 (dk_at dksX3_holds_5 7 rfl rfl)
theorem dX3_holds_125 : decode cX3_holds 125 = .ok (.iload_n 3, 1) := dk_29 (dk_at dksX3_holds_5 8 rfl rfl)
theorem dX3_holds_126 : decode cX3_holds 126 = .ok (.iconst 1, 1) := dk_4 (dk_at dksX3_holds_5 9 rfl rfl)
theorem dX3_holds_127 : decode cX3_holds 127 = .ok (.isub, 1) := dk_100 (dk_at dksX3_holds_5 10 rfl rfl)
theorem dX3_holds_128 : decode cX3_holds 128 = .ok (.iload 4, 2) := dk_21 4 (dk_at dksX3_holds_5 11 rfl rfl)
theorem dX3_holds_130 : decode cX3_holds 130 = .ok (.invokestatic 133, 3) := dk_184 0 133 (dk_at dksX3_holds_5 13 rfl rfl)
theorem dX3_holds_133 : decode cX3_holds 133 = .ok (.ireturn, 1) := dk_172 (dk_at dksX3_holds_5 16 rfl rfl)
theorem dX3_holds_134 : decode cX3_holds 134 = .ok (.aload_n 0, 1) := dk_42 (dk_at dksX3_holds_5 17 rfl rfl)
theorem dX3_holds_135 : decode cX3_holds 135 = .ok (.iload_n 1, 1) := dk_27 (dk_at dksX3_holds_5 18 rfl rfl)
theorem dX3_holds_136 : decode cX3_holds 136 = .ok (.iload_n 2, 1) := dk_28 (dk_at dksX3_holds_5 19 rfl rfl)
theorem dX3_holds_137 : decode cX3_holds 137 = .ok (.iload_n 3, 1) := dk_29 (dk_at dksX3_holds_5 20 rfl rfl)
theorem dX3_holds_138 : decode cX3_holds 138 = .ok (.invokevirtual 137, 3) := dk_182 0 137 (dk_at dksX3_holds_5 21 rfl rfl)
theorem dX3_holds_141 : decode cX3_holds 141 = .ok (.ifCond .ne 23, 3) := dk_154 0 23 (dk_at dksX3_holds_6 0 rfl rfl)
theorem dX3_holds_144 : decode cX3_holds 144 = .ok (.iload 4, 2) := dk_21 4 (dk_at dksX3_holds_6 3 rfl rfl)
theorem dX3_holds_146 : decode cX3_holds 146 = .ok (.iload 7, 2) := dk_21 7 (dk_at dksX3_holds_6 5 rfl rfl)
theorem dX3_holds_148 : decode cX3_holds 148 = .ok (.bipush 48, 2) := dk_16 48 (dk_at dksX3_holds_6 7 rfl rfl)
theorem dX3_holds_150 : decode cX3_holds 150 = .ok (.isub, 1) := dk_100 (dk_at dksX3_holds_6 9 rfl rfl)
theorem dX3_holds_151 : decode cX3_holds 151 = .ok (.ishr, 1) := dk_122 (dk_at dksX3_holds_6 10 rfl rfl)
theorem dX3_holds_152 : decode cX3_holds 152 = .ok (.iconst 1, 1) := dk_4 (dk_at dksX3_holds_6 11 rfl rfl)
theorem dX3_holds_153 : decode cX3_holds 153 = .ok (.iand, 1) := dk_126 (dk_at dksX3_holds_6 12 rfl rfl)
theorem dX3_holds_154 : decode cX3_holds 154 = .ok (.iconst 1, 1) := dk_4 (dk_at dksX3_holds_6 13 rfl rfl)
theorem dX3_holds_155 : decode cX3_holds 155 = .ok (.if_icmp .ne 7, 3) := dk_160 0 7 (dk_at dksX3_holds_6 14 rfl rfl)
theorem dX3_holds_158 : decode cX3_holds 158 = .ok (.iconst 1, 1) := dk_4 (dk_at dksX3_holds_6 17 rfl rfl)
theorem dX3_holds_159 : decode cX3_holds 159 = .ok (.goto 4, 3) := dk_167 0 4 (dk_at dksX3_holds_6 18 rfl rfl)
theorem dX3_holds_162 : decode cX3_holds 162 = .ok (.iconst 0, 1) := dk_3 (dk_at dksX3_holds_6 21 rfl rfl)
theorem dX3_holds_163 : decode cX3_holds 163 = .ok (.ireturn, 1) := dk_172 (dk_at dksX3_holds_6 22 rfl rfl)
theorem dX3_holds_164 : decode cX3_holds 164 = .ok (.iconst 0, 1) := dk_3 (dk_at dksX3_holds_6 23 rfl rfl)
theorem dX3_holds_165 : decode cX3_holds 165 = .ok (.istore 8, 2) := dk_54 8 (dk_at dksX3_holds_7 0 rfl rfl)
theorem dX3_holds_167 : decode cX3_holds 167 = .ok (.iload_n 2, 1) := dk_28 (dk_at dksX3_holds_7 2 rfl rfl)
theorem dX3_holds_168 : decode cX3_holds 168 = .ok (.iconst 4, 1) := dk_7 (dk_at dksX3_holds_7 3 rfl rfl)
theorem dX3_holds_169 : decode cX3_holds 169 = .ok (.iadd, 1) := dk_96 (dk_at dksX3_holds_7 4 rfl rfl)
theorem dX3_holds_170 : decode cX3_holds 170 = .ok (.istore 9, 2) := dk_54 9 (dk_at dksX3_holds_7 5 rfl rfl)
theorem dX3_holds_172 : decode cX3_holds 172 = .ok (.iload 9, 2) := dk_21 9 (dk_at dksX3_holds_7 7 rfl rfl)
theorem dX3_holds_174 : decode cX3_holds 174 = .ok (.iload_n 3, 1) := dk_29 (dk_at dksX3_holds_7 9 rfl rfl)
theorem dX3_holds_175 : decode cX3_holds 175 = .ok (.iconst 1, 1) := dk_4 (dk_at dksX3_holds_7 10 rfl rfl)
theorem dX3_holds_176 : decode cX3_holds 176 = .ok (.isub, 1) := dk_100 (dk_at dksX3_holds_7 11 rfl rfl)
theorem dX3_holds_177 : decode cX3_holds 177 = .ok (.if_icmp .ge 50, 3) := dk_162 0 50 (dk_at dksX3_holds_7 12 rfl rfl)
theorem dX3_holds_180 : decode cX3_holds 180 = .ok (.aload_n 0, 1) := dk_42 (dk_at dksX3_holds_7 15 rfl rfl)
theorem dX3_holds_181 : decode cX3_holds 181 = .ok (.iload_n 1, 1) := dk_27 (dk_at dksX3_holds_7 16 rfl rfl)
theorem dX3_holds_182 : decode cX3_holds 182 = .ok (.iload 9, 2) := dk_21 9 (dk_at dksX3_holds_7 17 rfl rfl)
theorem dX3_holds_184 : decode cX3_holds 184 = .ok (.iload_n 3, 1) := dk_29 (dk_at dksX3_holds_7 19 rfl rfl)
theorem dX3_holds_185 : decode cX3_holds 185 = .ok (.iconst 1, 1) := dk_4 (dk_at dksX3_holds_7 20 rfl rfl)
theorem dX3_holds_186 : decode cX3_holds 186 = .ok (.isub, 1) := dk_100 (dk_at dksX3_holds_7 21 rfl rfl)
theorem dX3_holds_187 : decode cX3_holds 187 = .ok (.bipush 44, 2) := dk_16 44 (dk_at dksX3_holds_7 22 rfl rfl)
theorem dX3_holds_189 : decode cX3_holds 189 = .ok (.invokevirtual 130, 3) := dk_182 0 130 (dk_at dksX3_holds_8 0 rfl rfl)
theorem dX3_holds_192 : decode cX3_holds 192 = .ok (.istore 10, 2) := dk_54 10 (dk_at dksX3_holds_8 3 rfl rfl)
theorem dX3_holds_194 : decode cX3_holds 194 = .ok (.iload 8, 2) := dk_21 8 (dk_at dksX3_holds_8 5 rfl rfl)
theorem dX3_holds_196 : decode cX3_holds 196 = .ok (.aload_n 0, 1) := dk_42 (dk_at dksX3_holds_8 7 rfl rfl)
theorem dX3_holds_197 : decode cX3_holds 197 = .ok (.iload_n 1, 1) := dk_27 (dk_at dksX3_holds_8 8 rfl rfl)
theorem dX3_holds_198 : decode cX3_holds 198 = .ok (.iload 9, 2) := dk_21 9 (dk_at dksX3_holds_8 9 rfl rfl)
theorem dX3_holds_200 : decode cX3_holds 200 = .ok (.iload 10, 2) := dk_21 10 (dk_at dksX3_holds_8 11 rfl rfl)
theorem dX3_holds_202 : decode cX3_holds 202 = .ok (.iload 4, 2) := dk_21 4 (dk_at dksX3_holds_8 13 rfl rfl)
theorem dX3_holds_204 : decode cX3_holds 204 = .ok (.invokestatic 133, 3) := dk_184 0 133 (dk_at dksX3_holds_8 15 rfl rfl)
theorem dX3_holds_207 : decode cX3_holds 207 = .ok (.ifCond .eq 7, 3) := dk_153 0 7 (dk_at dksX3_holds_8 18 rfl rfl)
theorem dX3_holds_210 : decode cX3_holds 210 = .ok (.iconst 1, 1) := dk_4 (dk_at dksX3_holds_8 21 rfl rfl)
theorem dX3_holds_211 : decode cX3_holds 211 = .ok (.goto 4, 3) := dk_167 0 4 (dk_at dksX3_holds_9 0 rfl rfl)
theorem dX3_holds_214 : decode cX3_holds 214 = .ok (.iconst 0, 1) := dk_3 (dk_at dksX3_holds_9 3 rfl rfl)
theorem dX3_holds_215 : decode cX3_holds 215 = .ok (.iadd, 1) := dk_96 (dk_at dksX3_holds_9 4 rfl rfl)
theorem dX3_holds_216 : decode cX3_holds 216 = .ok (.istore 8, 2) := dk_54 8 (dk_at dksX3_holds_9 5 rfl rfl)
theorem dX3_holds_218 : decode cX3_holds 218 = .ok (.iload 10, 2) := dk_21 10 (dk_at dksX3_holds_9 7 rfl rfl)
theorem dX3_holds_220 : decode cX3_holds 220 = .ok (.iconst 1, 1) := dk_4 (dk_at dksX3_holds_9 9 rfl rfl)
theorem dX3_holds_221 : decode cX3_holds 221 = .ok (.iadd, 1) := dk_96 (dk_at dksX3_holds_9 10 rfl rfl)
theorem dX3_holds_222 : decode cX3_holds 222 = .ok (.istore 9, 2) := dk_54 9 (dk_at dksX3_holds_9 11 rfl rfl)
theorem dX3_holds_224 : decode cX3_holds 224 = .ok (.goto (-52), 3) := dk_167 255 204 (dk_at dksX3_holds_9 13 rfl rfl)
theorem dX3_holds_227 : decode cX3_holds 227 = .ok (.iload 8, 2) := dk_21 8 (dk_at dksX3_holds_9 16 rfl rfl)
theorem dX3_holds_229 : decode cX3_holds 229 = .ok (.iload 7, 2) := dk_21 7 (dk_at dksX3_holds_9 18 rfl rfl)
theorem dX3_holds_231 : decode cX3_holds 231 = .ok (.bipush 48, 2) := dk_16 48 (dk_at dksX3_holds_9 20 rfl rfl)
theorem dX3_holds_233 : decode cX3_holds 233 = .ok (.isub, 1) := dk_100 (dk_at dksX3_holds_9 22 rfl rfl)
theorem dX3_holds_234 : decode cX3_holds 234 = .ok (.if_icmp .lt 7, 3) := dk_161 0 7 (dk_at dksX3_holds_10 0 rfl rfl)
theorem dX3_holds_237 : decode cX3_holds 237 = .ok (.iconst 1, 1) := dk_4 (dk_at dksX3_holds_10 3 rfl rfl)
theorem dX3_holds_238 : decode cX3_holds 238 = .ok (.goto 4, 3) := dk_167 0 4 (dk_at dksX3_holds_10 4 rfl rfl)
theorem dX3_holds_241 : decode cX3_holds 241 = .ok (.iconst 0, 1) := dk_3 (dk_at dksX3_holds_10 7 rfl rfl)
theorem dX3_holds_242 : decode cX3_holds 242 = .ok (.ireturn, 1) := dk_172 (dk_at dksX3_holds_10 8 rfl rfl)
abbrev cX3_next : ByteArray := prog_27_method_39_code
def yX3_next : MethodName := ⟨RX3, "next", "(IIII)I"⟩
def dkwX3_next_3 : List UInt8 := [167, 255, 192, 29, 172]
abbrev dktX3_next_3 : List UInt8 := dkwX3_next_3 ++ []
def dkwX3_next_2 : List UInt8 := [4, 167, 0, 15, 21, 7, 16, 41, 160, 0, 7, 2, 167, 0, 4, 3, 96, 54, 5, 132, 6, 1]
abbrev dktX3_next_2 : List UInt8 := dkwX3_next_2 ++ dktX3_next_3
def dkwX3_next_1 : List UInt8 := [21, 5, 154, 0, 13, 21, 7, 21, 4, 160, 0, 6, 21, 6, 172, 21, 5, 21, 7, 16, 40, 160, 0, 7]
abbrev dktX3_next_1 : List UInt8 := dkwX3_next_1 ++ dktX3_next_2
def dkwX3_next_0 : List UInt8 := [3, 54, 5, 28, 54, 6, 21, 6, 29, 162, 0, 64, 42, 27, 16, 12, 21, 6, 96, 182, 0, 49, 54, 7]
abbrev dktX3_next_0 : List UInt8 := dkwX3_next_0 ++ dktX3_next_1
theorem dksX3_next_0 : cX3_next.data.toList.drop 0 = dktX3_next_0 := by decide +kernel
theorem dksX3_next_1 : cX3_next.data.toList.drop 24 = dktX3_next_1 := dk_seg dksX3_next_0 24 rfl rfl
theorem dksX3_next_2 : cX3_next.data.toList.drop 48 = dktX3_next_2 := dk_seg dksX3_next_1 24 rfl rfl
theorem dksX3_next_3 : cX3_next.data.toList.drop 70 = dktX3_next_3 := dk_seg dksX3_next_2 22 rfl rfl
theorem dX3_next_0 : decode cX3_next 0 = .ok (.iconst 0, 1) := dk_3 (dk_at dksX3_next_0 0 rfl rfl)
theorem dX3_next_1 : decode cX3_next 1 = .ok (.istore 5, 2) := dk_54 5 (dk_at dksX3_next_0 1 rfl rfl)
theorem dX3_next_3 : decode cX3_next 3 = .ok (.iload_n 2, 1) := dk_28 (dk_at dksX3_next_0 3 rfl rfl)
theorem dX3_next_4 : decode cX3_next 4 = .ok (.istore 6, 2) := dk_54 6 (dk_at dksX3_next_0 4 rfl rfl)
theorem dX3_next_6 : decode cX3_next 6 = .ok (.iload 6, 2) := dk_21 6 (dk_at dksX3_next_0 6 rfl rfl)
theorem dX3_next_8 : decode cX3_next 8 = .ok (.iload_n 3, 1) := dk_29 (dk_at dksX3_next_0 8 rfl rfl)
theorem dX3_next_9 : decode cX3_next 9 = .ok (.if_icmp .ge 64, 3) := dk_162 0 64 (dk_at dksX3_next_0 9 rfl rfl)
theorem dX3_next_12 : decode cX3_next 12 = .ok (.aload_n 0, 1) := dk_42 (dk_at dksX3_next_0 12 rfl rfl)
theorem dX3_next_13 : decode cX3_next 13 = .ok (.iload_n 1, 1) := dk_27 (dk_at dksX3_next_0 13 rfl rfl)
theorem dX3_next_14 : decode cX3_next 14 = .ok (.bipush 12, 2) := dk_16 12 (dk_at dksX3_next_0 14 rfl rfl)
theorem dX3_next_16 : decode cX3_next 16 = .ok (.iload 6, 2) := dk_21 6 (dk_at dksX3_next_0 16 rfl rfl)
theorem dX3_next_18 : decode cX3_next 18 = .ok (.iadd, 1) := dk_96 (dk_at dksX3_next_0 18 rfl rfl)
theorem dX3_next_19 : decode cX3_next 19 = .ok (.invokevirtual 49, 3) := dk_182 0 49 (dk_at dksX3_next_0 19 rfl rfl)
theorem dX3_next_22 : decode cX3_next 22 = .ok (.istore 7, 2) := dk_54 7 (dk_at dksX3_next_0 22 rfl rfl)
theorem dX3_next_24 : decode cX3_next 24 = .ok (.iload 5, 2) := dk_21 5 (dk_at dksX3_next_1 0 rfl rfl)
theorem dX3_next_26 : decode cX3_next 26 = .ok (.ifCond .ne 13, 3) := dk_154 0 13 (dk_at dksX3_next_1 2 rfl rfl)
theorem dX3_next_29 : decode cX3_next 29 = .ok (.iload 7, 2) := dk_21 7 (dk_at dksX3_next_1 5 rfl rfl)
theorem dX3_next_31 : decode cX3_next 31 = .ok (.iload 4, 2) := dk_21 4 (dk_at dksX3_next_1 7 rfl rfl)
theorem dX3_next_33 : decode cX3_next 33 = .ok (.if_icmp .ne 6, 3) := dk_160 0 6 (dk_at dksX3_next_1 9 rfl rfl)
theorem dX3_next_36 : decode cX3_next 36 = .ok (.iload 6, 2) := dk_21 6 (dk_at dksX3_next_1 12 rfl rfl)
theorem dX3_next_38 : decode cX3_next 38 = .ok (.ireturn, 1) := dk_172 (dk_at dksX3_next_1 14 rfl rfl)
theorem dX3_next_39 : decode cX3_next 39 = .ok (.iload 5, 2) := dk_21 5 (dk_at dksX3_next_1 15 rfl rfl)
theorem dX3_next_41 : decode cX3_next 41 = .ok (.iload 7, 2) := dk_21 7 (dk_at dksX3_next_1 17 rfl rfl)
theorem dX3_next_43 : decode cX3_next 43 = .ok (.bipush 40, 2) := dk_16 40 (dk_at dksX3_next_1 19 rfl rfl)
theorem dX3_next_45 : decode cX3_next 45 = .ok (.if_icmp .ne 7, 3) := dk_160 0 7 (dk_at dksX3_next_1 21 rfl rfl)
theorem dX3_next_48 : decode cX3_next 48 = .ok (.iconst 1, 1) := dk_4 (dk_at dksX3_next_2 0 rfl rfl)
theorem dX3_next_49 : decode cX3_next 49 = .ok (.goto 15, 3) := dk_167 0 15 (dk_at dksX3_next_2 1 rfl rfl)
theorem dX3_next_52 : decode cX3_next 52 = .ok (.iload 7, 2) := dk_21 7 (dk_at dksX3_next_2 4 rfl rfl)
theorem dX3_next_54 : decode cX3_next 54 = .ok (.bipush 41, 2) := dk_16 41 (dk_at dksX3_next_2 6 rfl rfl)
theorem dX3_next_56 : decode cX3_next 56 = .ok (.if_icmp .ne 7, 3) := dk_160 0 7 (dk_at dksX3_next_2 8 rfl rfl)
theorem dX3_next_59 : decode cX3_next 59 = .ok (.iconst (-1), 1) := dk_2 (dk_at dksX3_next_2 11 rfl rfl)
theorem dX3_next_60 : decode cX3_next 60 = .ok (.goto 4, 3) := dk_167 0 4 (dk_at dksX3_next_2 12 rfl rfl)
theorem dX3_next_63 : decode cX3_next 63 = .ok (.iconst 0, 1) := dk_3 (dk_at dksX3_next_2 15 rfl rfl)
theorem dX3_next_64 : decode cX3_next 64 = .ok (.iadd, 1) := dk_96 (dk_at dksX3_next_2 16 rfl rfl)
theorem dX3_next_65 : decode cX3_next 65 = .ok (.istore 5, 2) := dk_54 5 (dk_at dksX3_next_2 17 rfl rfl)
theorem dX3_next_67 : decode cX3_next 67 = .ok (.iinc 6 1, 3) := dk_132 6 1 (dk_at dksX3_next_2 19 rfl rfl)
theorem dX3_next_70 : decode cX3_next 70 = .ok (.goto (-64), 3) := dk_167 255 192 (dk_at dksX3_next_3 0 rfl rfl)
theorem dX3_next_73 : decode cX3_next 73 = .ok (.iload_n 3, 1) := dk_29 (dk_at dksX3_next_3 3 rfl rfl)
theorem dX3_next_74 : decode cX3_next 74 = .ok (.ireturn, 1) := dk_172 (dk_at dksX3_next_3 4 rfl rfl)
abbrev cX3_isCount : ByteArray := prog_27_method_40_code
def yX3_isCount : MethodName := ⟨RX3, "isCount", "(III)Z"⟩
def dkwX3_isCount_1 : List UInt8 := [167, 0, 4, 3, 172]
abbrev dktX3_isCount_1 : List UInt8 := dkwX3_isCount_1 ++ []
def dkwX3_isCount_0 : List UInt8 := [28, 4, 96, 29, 162, 0, 23, 42, 27, 16, 12, 28, 96, 4, 96, 182, 0, 49, 16, 111, 160, 0, 7, 4]
abbrev dktX3_isCount_0 : List UInt8 := dkwX3_isCount_0 ++ dktX3_isCount_1
theorem dksX3_isCount_0 : cX3_isCount.data.toList.drop 0 = dktX3_isCount_0 := by decide +kernel
theorem dksX3_isCount_1 : cX3_isCount.data.toList.drop 24 = dktX3_isCount_1 := dk_seg dksX3_isCount_0 24 rfl rfl
theorem dX3_isCount_0 : decode cX3_isCount 0 = .ok (.iload_n 2, 1) := dk_28 (dk_at dksX3_isCount_0 0 rfl rfl)
theorem dX3_isCount_1 : decode cX3_isCount 1 = .ok (.iconst 1, 1) := dk_4 (dk_at dksX3_isCount_0 1 rfl rfl)
theorem dX3_isCount_2 : decode cX3_isCount 2 = .ok (.iadd, 1) := dk_96 (dk_at dksX3_isCount_0 2 rfl rfl)
theorem dX3_isCount_3 : decode cX3_isCount 3 = .ok (.iload_n 3, 1) := dk_29 (dk_at dksX3_isCount_0 3 rfl rfl)
theorem dX3_isCount_4 : decode cX3_isCount 4 = .ok (.if_icmp .ge 23, 3) := dk_162 0 23 (dk_at dksX3_isCount_0 4 rfl rfl)
theorem dX3_isCount_7 : decode cX3_isCount 7 = .ok (.aload_n 0, 1) := dk_42 (dk_at dksX3_isCount_0 7 rfl rfl)
theorem dX3_isCount_8 : decode cX3_isCount 8 = .ok (.iload_n 1, 1) := dk_27 (dk_at dksX3_isCount_0 8 rfl rfl)
theorem dX3_isCount_9 : decode cX3_isCount 9 = .ok (.bipush 12, 2) := dk_16 12 (dk_at dksX3_isCount_0 9 rfl rfl)
theorem dX3_isCount_11 : decode cX3_isCount 11 = .ok (.iload_n 2, 1) := dk_28 (dk_at dksX3_isCount_0 11 rfl rfl)
theorem dX3_isCount_12 : decode cX3_isCount 12 = .ok (.iadd, 1) := dk_96 (dk_at dksX3_isCount_0 12 rfl rfl)
theorem dX3_isCount_13 : decode cX3_isCount 13 = .ok (.iconst 1, 1) := dk_4 (dk_at dksX3_isCount_0 13 rfl rfl)
theorem dX3_isCount_14 : decode cX3_isCount 14 = .ok (.iadd, 1) := dk_96 (dk_at dksX3_isCount_0 14 rfl rfl)
theorem dX3_isCount_15 : decode cX3_isCount 15 = .ok (.invokevirtual 49, 3) := dk_182 0 49 (dk_at dksX3_isCount_0 15 rfl rfl)
theorem dX3_isCount_18 : decode cX3_isCount 18 = .ok (.bipush 111, 2) := dk_16 111 (dk_at dksX3_isCount_0 18 rfl rfl)
theorem dX3_isCount_20 : decode cX3_isCount 20 = .ok (.if_icmp .ne 7, 3) := dk_160 0 7 (dk_at dksX3_isCount_0 20 rfl rfl)
theorem dX3_isCount_23 : decode cX3_isCount 23 = .ok (.iconst 1, 1) := dk_4 (dk_at dksX3_isCount_0 23 rfl rfl)
theorem dX3_isCount_24 : decode cX3_isCount 24 = .ok (.goto 4, 3) := dk_167 0 4 (dk_at dksX3_isCount_1 0 rfl rfl)
theorem dX3_isCount_27 : decode cX3_isCount 27 = .ok (.iconst 0, 1) := dk_3 (dk_at dksX3_isCount_1 3 rfl rfl)
theorem dX3_isCount_28 : decode cX3_isCount 28 = .ok (.ireturn, 1) := dk_172 (dk_at dksX3_isCount_1 4 rfl rfl)
abbrev cX3_reports : ByteArray := prog_27_method_47_code
def yX3_reports : MethodName := ⟨RX3, "reports", "(II)V"⟩
def dkwX3_reports_5 : List UInt8 := [167, 255, 198, 177]
abbrev dktX3_reports_5 : List UInt8 := dkwX3_reports_5 ++ []
def dkwX3_reports_4 : List UInt8 := [182, 0, 90, 153, 0, 18, 42, 42, 27, 21, 4, 182, 0, 90, 6, 96, 21, 4, 182, 0, 156, 132, 4, 1]
abbrev dktX3_reports_4 : List UInt8 := dkwX3_reports_4 ++ dktX3_reports_5
def dkwX3_reports_3 : List UInt8 := [184, 0, 61, 122, 4, 126, 4, 160, 0, 38, 42, 27, 21, 4, 182, 0, 86, 153, 0, 28, 42, 27, 21, 4]
abbrev dktX3_reports_3 : List UInt8 := dkwX3_reports_3 ++ dktX3_reports_4
def dkwX3_reports_2 : List UInt8 := [182, 0, 49, 42, 180, 0, 127, 100, 182, 0, 156, 4, 54, 4, 21, 4, 16, 24, 163, 0, 57, 29, 21, 4]
abbrev dktX3_reports_2 : List UInt8 := dkwX3_reports_2 ++ dktX3_reports_3
def dkwX3_reports_1 : List UInt8 := [154, 0, 10, 42, 5, 29, 182, 0, 156, 177, 42, 27, 29, 4, 182, 0, 146, 42, 6, 42, 27, 4]
abbrev dktX3_reports_1 : List UInt8 := dkwX3_reports_1 ++ dktX3_reports_2
def dkwX3_reports_0 : List UInt8 := [42, 28, 182, 0, 143, 62, 42, 3, 181, 0, 153, 42, 4, 27, 182, 0, 156, 42, 27, 29, 182, 0, 150]
abbrev dktX3_reports_0 : List UInt8 := dkwX3_reports_0 ++ dktX3_reports_1
theorem dksX3_reports_0 : cX3_reports.data.toList.drop 0 = dktX3_reports_0 := by decide +kernel
theorem dksX3_reports_1 : cX3_reports.data.toList.drop 23 = dktX3_reports_1 := dk_seg dksX3_reports_0 23 rfl rfl
theorem dksX3_reports_2 : cX3_reports.data.toList.drop 45 = dktX3_reports_2 := dk_seg dksX3_reports_1 22 rfl rfl
theorem dksX3_reports_3 : cX3_reports.data.toList.drop 69 = dktX3_reports_3 := dk_seg dksX3_reports_2 24 rfl rfl
theorem dksX3_reports_4 : cX3_reports.data.toList.drop 93 = dktX3_reports_4 := dk_seg dksX3_reports_3 24 rfl rfl
theorem dksX3_reports_5 : cX3_reports.data.toList.drop 117 = dktX3_reports_5 := dk_seg dksX3_reports_4 24 rfl rfl
theorem dX3_reports_0 : decode cX3_reports 0 = .ok (.aload_n 0, 1) := dk_42 (dk_at dksX3_reports_0 0 rfl rfl)
theorem dX3_reports_1 : decode cX3_reports 1 = .ok (.iload_n 2, 1) := dk_28 (dk_at dksX3_reports_0 1 rfl rfl)
theorem dX3_reports_2 : decode cX3_reports 2 = .ok (.invokevirtual 143, 3) := dk_182 0 143 (dk_at dksX3_reports_0 2 rfl rfl)
theorem dX3_reports_5 : decode cX3_reports 5 = .ok (.istore_n 3, 1) := dk_62 (dk_at dksX3_reports_0 5 rfl rfl)
theorem dX3_reports_6 : decode cX3_reports 6 = .ok (.aload_n 0, 1) := dk_42 (dk_at dksX3_reports_0 6 rfl rfl)
theorem dX3_reports_7 : decode cX3_reports 7 = .ok (.iconst 0, 1) := dk_3 (dk_at dksX3_reports_0 7 rfl rfl)
theorem dX3_reports_8 : decode cX3_reports 8 = .ok (.putfield 153, 3) := dk_181 0 153 (dk_at dksX3_reports_0 8 rfl rfl)
theorem dX3_reports_11 : decode cX3_reports 11 = .ok (.aload_n 0, 1) := dk_42 (dk_at dksX3_reports_0 11 rfl rfl)
theorem dX3_reports_12 : decode cX3_reports 12 = .ok (.iconst 1, 1) := dk_4 (dk_at dksX3_reports_0 12 rfl rfl)
theorem dX3_reports_13 : decode cX3_reports 13 = .ok (.iload_n 1, 1) := dk_27 (dk_at dksX3_reports_0 13 rfl rfl)
theorem dX3_reports_14 : decode cX3_reports 14 = .ok (.invokevirtual 156, 3) := dk_182 0 156 (dk_at dksX3_reports_0 14 rfl rfl)
theorem dX3_reports_17 : decode cX3_reports 17 = .ok (.aload_n 0, 1) := dk_42 (dk_at dksX3_reports_0 17 rfl rfl)
theorem dX3_reports_18 : decode cX3_reports 18 = .ok (.iload_n 1, 1) := dk_27 (dk_at dksX3_reports_0 18 rfl rfl)
theorem dX3_reports_19 : decode cX3_reports 19 = .ok (.iload_n 3, 1) := dk_29 (dk_at dksX3_reports_0 19 rfl rfl)
theorem dX3_reports_20 : decode cX3_reports 20 = .ok (.invokevirtual 150, 3) := dk_182 0 150 (dk_at dksX3_reports_0 20 rfl rfl)
theorem dX3_reports_23 : decode cX3_reports 23 = .ok (.ifCond .ne 10, 3) := dk_154 0 10 (dk_at dksX3_reports_1 0 rfl rfl)
theorem dX3_reports_26 : decode cX3_reports 26 = .ok (.aload_n 0, 1) := dk_42 (dk_at dksX3_reports_1 3 rfl rfl)
theorem dX3_reports_27 : decode cX3_reports 27 = .ok (.iconst 2, 1) := dk_5 (dk_at dksX3_reports_1 4 rfl rfl)
theorem dX3_reports_28 : decode cX3_reports 28 = .ok (.iload_n 3, 1) := dk_29 (dk_at dksX3_reports_1 5 rfl rfl)
theorem dX3_reports_29 : decode cX3_reports 29 = .ok (.invokevirtual 156, 3) := dk_182 0 156 (dk_at dksX3_reports_1 6 rfl rfl)
theorem dX3_reports_32 : decode cX3_reports 32 = .ok (.return_, 1) := dk_177 (dk_at dksX3_reports_1 9 rfl rfl)
theorem dX3_reports_33 : decode cX3_reports 33 = .ok (.aload_n 0, 1) := dk_42 (dk_at dksX3_reports_1 10 rfl rfl)
theorem dX3_reports_34 : decode cX3_reports 34 = .ok (.iload_n 1, 1) := dk_27 (dk_at dksX3_reports_1 11 rfl rfl)
theorem dX3_reports_35 : decode cX3_reports 35 = .ok (.iload_n 3, 1) := dk_29 (dk_at dksX3_reports_1 12 rfl rfl)
theorem dX3_reports_36 : decode cX3_reports 36 = .ok (.iconst 1, 1) := dk_4 (dk_at dksX3_reports_1 13 rfl rfl)
theorem dX3_reports_37 : decode cX3_reports 37 = .ok (.invokevirtual 146, 3) := dk_182 0 146 (dk_at dksX3_reports_1 14 rfl rfl)
theorem dX3_reports_40 : decode cX3_reports 40 = .ok (.aload_n 0, 1) := dk_42 (dk_at dksX3_reports_1 17 rfl rfl)
theorem dX3_reports_41 : decode cX3_reports 41 = .ok (.iconst 3, 1) := dk_6 (dk_at dksX3_reports_1 18 rfl rfl)
theorem dX3_reports_42 : decode cX3_reports 42 = .ok (.aload_n 0, 1) := dk_42 (dk_at dksX3_reports_1 19 rfl rfl)
theorem dX3_reports_43 : decode cX3_reports 43 = .ok (.iload_n 1, 1) := dk_27 (dk_at dksX3_reports_1 20 rfl rfl)
theorem dX3_reports_44 : decode cX3_reports 44 = .ok (.iconst 1, 1) := dk_4 (dk_at dksX3_reports_1 21 rfl rfl)
theorem dX3_reports_45 : decode cX3_reports 45 = .ok (.invokevirtual 49, 3) := dk_182 0 49 (dk_at dksX3_reports_2 0 rfl rfl)
theorem dX3_reports_48 : decode cX3_reports 48 = .ok (.aload_n 0, 1) := dk_42 (dk_at dksX3_reports_2 3 rfl rfl)
theorem dX3_reports_49 : decode cX3_reports 49 = .ok (.getfield 127, 3) := dk_180 0 127 (dk_at dksX3_reports_2 4 rfl rfl)
theorem dX3_reports_52 : decode cX3_reports 52 = .ok (.isub, 1) := dk_100 (dk_at dksX3_reports_2 7 rfl rfl)
theorem dX3_reports_53 : decode cX3_reports 53 = .ok (.invokevirtual 156, 3) := dk_182 0 156 (dk_at dksX3_reports_2 8 rfl rfl)
theorem dX3_reports_56 : decode cX3_reports 56 = .ok (.iconst 1, 1) := dk_4 (dk_at dksX3_reports_2 11 rfl rfl)
theorem dX3_reports_57 : decode cX3_reports 57 = .ok (.istore 4, 2) := dk_54 4 (dk_at dksX3_reports_2 12 rfl rfl)
theorem dX3_reports_59 : decode cX3_reports 59 = .ok (.iload 4, 2) := dk_21 4 (dk_at dksX3_reports_2 14 rfl rfl)
theorem dX3_reports_61 : decode cX3_reports 61 = .ok (.bipush 24, 2) := dk_16 24 (dk_at dksX3_reports_2 16 rfl rfl)
theorem dX3_reports_63 : decode cX3_reports 63 = .ok (.if_icmp .gt 57, 3) := dk_163 0 57 (dk_at dksX3_reports_2 18 rfl rfl)
theorem dX3_reports_66 : decode cX3_reports 66 = .ok (.iload_n 3, 1) := dk_29 (dk_at dksX3_reports_2 21 rfl rfl)
theorem dX3_reports_67 : decode cX3_reports 67 = .ok (.iload 4, 2) := dk_21 4 (dk_at dksX3_reports_2 22 rfl rfl)
theorem dX3_reports_69 : decode cX3_reports 69 = .ok (.invokestatic 61, 3) := dk_184 0 61 (dk_at dksX3_reports_3 0 rfl rfl)
theorem dX3_reports_72 : decode cX3_reports 72 = .ok (.ishr, 1) := dk_122 (dk_at dksX3_reports_3 3 rfl rfl)
theorem dX3_reports_73 : decode cX3_reports 73 = .ok (.iconst 1, 1) := dk_4 (dk_at dksX3_reports_3 4 rfl rfl)
theorem dX3_reports_74 : decode cX3_reports 74 = .ok (.iand, 1) := dk_126 (dk_at dksX3_reports_3 5 rfl rfl)
theorem dX3_reports_75 : decode cX3_reports 75 = .ok (.iconst 1, 1) := dk_4 (dk_at dksX3_reports_3 6 rfl rfl)
theorem dX3_reports_76 : decode cX3_reports 76 = .ok (.if_icmp .ne 38, 3) := dk_160 0 38 (dk_at dksX3_reports_3 7 rfl rfl)
theorem dX3_reports_79 : decode cX3_reports 79 = .ok (.aload_n 0, 1) := dk_42 (dk_at dksX3_reports_3 10 rfl rfl)
theorem dX3_reports_80 : decode cX3_reports 80 = .ok (.iload_n 1, 1) := dk_27 (dk_at dksX3_reports_3 11 rfl rfl)
theorem dX3_reports_81 : decode cX3_reports 81 = .ok (.iload 4, 2) := dk_21 4 (dk_at dksX3_reports_3 12 rfl rfl)
theorem dX3_reports_83 : decode cX3_reports 83 = .ok (.invokevirtual 86, 3) := dk_182 0 86 (dk_at dksX3_reports_3 14 rfl rfl)
theorem dX3_reports_86 : decode cX3_reports 86 = .ok (.ifCond .eq 28, 3) := dk_153 0 28 (dk_at dksX3_reports_3 17 rfl rfl)
theorem dX3_reports_89 : decode cX3_reports 89 = .ok (.aload_n 0, 1) := dk_42 (dk_at dksX3_reports_3 20 rfl rfl)
theorem dX3_reports_90 : decode cX3_reports 90 = .ok (.iload_n 1, 1) := dk_27 (dk_at dksX3_reports_3 21 rfl rfl)
theorem dX3_reports_91 : decode cX3_reports 91 = .ok (.iload 4, 2) := dk_21 4 (dk_at dksX3_reports_3 22 rfl rfl)
theorem dX3_reports_93 : decode cX3_reports 93 = .ok (.invokevirtual 90, 3) := dk_182 0 90 (dk_at dksX3_reports_4 0 rfl rfl)
theorem dX3_reports_96 : decode cX3_reports 96 = .ok (.ifCond .eq 18, 3) := dk_153 0 18 (dk_at dksX3_reports_4 3 rfl rfl)
theorem dX3_reports_99 : decode cX3_reports 99 = .ok (.aload_n 0, 1) := dk_42 (dk_at dksX3_reports_4 6 rfl rfl)
theorem dX3_reports_100 : decode cX3_reports 100 = .ok (.aload_n 0, 1) := dk_42 (dk_at dksX3_reports_4 7 rfl rfl)
theorem dX3_reports_101 : decode cX3_reports 101 = .ok (.iload_n 1, 1) := dk_27 (dk_at dksX3_reports_4 8 rfl rfl)
theorem dX3_reports_102 : decode cX3_reports 102 = .ok (.iload 4, 2) := dk_21 4 (dk_at dksX3_reports_4 9 rfl rfl)
theorem dX3_reports_104 : decode cX3_reports 104 = .ok (.invokevirtual 90, 3) := dk_182 0 90 (dk_at dksX3_reports_4 11 rfl rfl)
theorem dX3_reports_107 : decode cX3_reports 107 = .ok (.iconst 3, 1) := dk_6 (dk_at dksX3_reports_4 14 rfl rfl)
theorem dX3_reports_108 : decode cX3_reports 108 = .ok (.iadd, 1) := dk_96 (dk_at dksX3_reports_4 15 rfl rfl)
theorem dX3_reports_109 : decode cX3_reports 109 = .ok (.iload 4, 2) := dk_21 4 (dk_at dksX3_reports_4 16 rfl rfl)
theorem dX3_reports_111 : decode cX3_reports 111 = .ok (.invokevirtual 156, 3) := dk_182 0 156 (dk_at dksX3_reports_4 18 rfl rfl)
theorem dX3_reports_114 : decode cX3_reports 114 = .ok (.iinc 4 1, 3) := dk_132 4 1 (dk_at dksX3_reports_4 21 rfl rfl)
theorem dX3_reports_117 : decode cX3_reports 117 = .ok (.goto (-58), 3) := dk_167 255 198 (dk_at dksX3_reports_5 0 rfl rfl)
theorem dX3_reports_120 : decode cX3_reports 120 = .ok (.return_, 1) := dk_177 (dk_at dksX3_reports_5 3 rfl rfl)
abbrev cX3_level : ByteArray := prog_27_method_46_code
def yX3_level : MethodName := ⟨RX3, "level", "(II)V"⟩
def dkwX3_level_1 : List UInt8 := [180, 0, 153, 4, 96, 181, 0, 153, 177]
abbrev dktX3_level_1 : List UInt8 := dkwX3_level_1 ++ []
def dkwX3_level_0 : List UInt8 := [42, 180, 0, 22, 42, 180, 0, 153, 27, 79, 42, 180, 0, 25, 42, 180, 0, 153, 28, 79, 42, 89]
abbrev dktX3_level_0 : List UInt8 := dkwX3_level_0 ++ dktX3_level_1
theorem dksX3_level_0 : cX3_level.data.toList.drop 0 = dktX3_level_0 := by decide +kernel
theorem dksX3_level_1 : cX3_level.data.toList.drop 22 = dktX3_level_1 := dk_seg dksX3_level_0 22 rfl rfl
theorem dX3_level_0 : decode cX3_level 0 = .ok (.aload_n 0, 1) := dk_42 (dk_at dksX3_level_0 0 rfl rfl)
theorem dX3_level_1 : decode cX3_level 1 = .ok (.getfield 22, 3) := dk_180 0 22 (dk_at dksX3_level_0 1 rfl rfl)
theorem dX3_level_4 : decode cX3_level 4 = .ok (.aload_n 0, 1) := dk_42 (dk_at dksX3_level_0 4 rfl rfl)
theorem dX3_level_5 : decode cX3_level 5 = .ok (.getfield 153, 3) := dk_180 0 153 (dk_at dksX3_level_0 5 rfl rfl)
theorem dX3_level_8 : decode cX3_level 8 = .ok (.iload_n 1, 1) := dk_27 (dk_at dksX3_level_0 8 rfl rfl)
theorem dX3_level_9 : decode cX3_level 9 = .ok (.iastore, 1) := dk_79 (dk_at dksX3_level_0 9 rfl rfl)
theorem dX3_level_10 : decode cX3_level 10 = .ok (.aload_n 0, 1) := dk_42 (dk_at dksX3_level_0 10 rfl rfl)
theorem dX3_level_11 : decode cX3_level 11 = .ok (.getfield 25, 3) := dk_180 0 25 (dk_at dksX3_level_0 11 rfl rfl)
theorem dX3_level_14 : decode cX3_level 14 = .ok (.aload_n 0, 1) := dk_42 (dk_at dksX3_level_0 14 rfl rfl)
theorem dX3_level_15 : decode cX3_level 15 = .ok (.getfield 153, 3) := dk_180 0 153 (dk_at dksX3_level_0 15 rfl rfl)
theorem dX3_level_18 : decode cX3_level 18 = .ok (.iload_n 2, 1) := dk_28 (dk_at dksX3_level_0 18 rfl rfl)
theorem dX3_level_19 : decode cX3_level 19 = .ok (.iastore, 1) := dk_79 (dk_at dksX3_level_0 19 rfl rfl)
theorem dX3_level_20 : decode cX3_level 20 = .ok (.aload_n 0, 1) := dk_42 (dk_at dksX3_level_0 20 rfl rfl)
theorem dX3_level_21 : decode cX3_level 21 = .ok (.dup, 1) := dk_89 (dk_at dksX3_level_0 21 rfl rfl)
theorem dX3_level_22 : decode cX3_level 22 = .ok (.getfield 153, 3) := dk_180 0 153 (dk_at dksX3_level_1 0 rfl rfl)
theorem dX3_level_25 : decode cX3_level 25 = .ok (.iconst 1, 1) := dk_4 (dk_at dksX3_level_1 3 rfl rfl)
theorem dX3_level_26 : decode cX3_level 26 = .ok (.iadd, 1) := dk_96 (dk_at dksX3_level_1 4 rfl rfl)
theorem dX3_level_27 : decode cX3_level 27 = .ok (.putfield 153, 3) := dk_181 0 153 (dk_at dksX3_level_1 5 rfl rfl)
theorem dX3_level_30 : decode cX3_level 30 = .ok (.return_, 1) := dk_177 (dk_at dksX3_level_1 8 rfl rfl)
abbrev cX3_valueAt : ByteArray := prog_27_method_37_code
def yX3_valueAt : MethodName := ⟨RX3, "valueAt", "(III)I"⟩
def dkwX3_valueAt_5 : List UInt8 := [17, 3, 251, 112, 54, 4, 132, 5, 1, 167, 255, 138, 21, 4, 172]
abbrev dktX3_valueAt_5 : List UInt8 := dkwX3_valueAt_5 ++ []
def dkwX3_valueAt_4 : List UInt8 := [112, 184, 0, 124, 104, 17, 3, 251, 112, 54, 6, 132, 7, 1, 167, 255, 179, 21, 4, 21, 6, 96]
abbrev dktX3_valueAt_4 : List UInt8 := dkwX3_valueAt_4 ++ dktX3_valueAt_5
def dkwX3_valueAt_3 : List UInt8 := [21, 6, 42, 180, 0, 19, 21, 5, 46, 42, 180, 0, 19, 21, 7, 46, 100, 17, 3, 251, 96, 17, 3, 251]
abbrev dktX3_valueAt_3 : List UInt8 := dkwX3_valueAt_3 ++ dktX3_valueAt_4
def dkwX3_valueAt_2 : List UInt8 := [42, 180, 0, 19, 21, 7, 46, 100, 17, 3, 251, 96, 17, 3, 251, 112, 104, 17, 3, 251, 112, 54, 6]
abbrev dktX3_valueAt_2 : List UInt8 := dkwX3_valueAt_2 ++ dktX3_valueAt_3
def dkwX3_valueAt_1 : List UInt8 := [182, 0, 57, 54, 6, 3, 54, 7, 21, 7, 28, 162, 0, 77, 21, 7, 21, 5, 159, 0, 64, 21, 6, 29]
abbrev dktX3_valueAt_1 : List UInt8 := dkwX3_valueAt_1 ++ dktX3_valueAt_2
def dkwX3_valueAt_0 : List UInt8 := [3, 54, 4, 3, 54, 5, 21, 5, 28, 162, 0, 118, 42, 27, 42, 180, 0, 19, 21, 5, 46, 4]
abbrev dktX3_valueAt_0 : List UInt8 := dkwX3_valueAt_0 ++ dktX3_valueAt_1
theorem dksX3_valueAt_0 : cX3_valueAt.data.toList.drop 0 = dktX3_valueAt_0 := by decide +kernel
theorem dksX3_valueAt_1 : cX3_valueAt.data.toList.drop 22 = dktX3_valueAt_1 := dk_seg dksX3_valueAt_0 22 rfl rfl
theorem dksX3_valueAt_2 : cX3_valueAt.data.toList.drop 46 = dktX3_valueAt_2 := dk_seg dksX3_valueAt_1 24 rfl rfl
theorem dksX3_valueAt_3 : cX3_valueAt.data.toList.drop 69 = dktX3_valueAt_3 := dk_seg dksX3_valueAt_2 23 rfl rfl
theorem dksX3_valueAt_4 : cX3_valueAt.data.toList.drop 93 = dktX3_valueAt_4 := dk_seg dksX3_valueAt_3 24 rfl rfl
theorem dksX3_valueAt_5 : cX3_valueAt.data.toList.drop 115 = dktX3_valueAt_5 := dk_seg dksX3_valueAt_4 22 rfl rfl
theorem dX3_valueAt_0 : decode cX3_valueAt 0 = .ok (.iconst 0, 1) := dk_3 (dk_at dksX3_valueAt_0 0 rfl rfl)
theorem dX3_valueAt_1 : decode cX3_valueAt 1 = .ok (.istore 4, 2) := dk_54 4 (dk_at dksX3_valueAt_0 1 rfl rfl)
theorem dX3_valueAt_3 : decode cX3_valueAt 3 = .ok (.iconst 0, 1) := dk_3 (dk_at dksX3_valueAt_0 3 rfl rfl)
theorem dX3_valueAt_4 : decode cX3_valueAt 4 = .ok (.istore 5, 2) := dk_54 5 (dk_at dksX3_valueAt_0 4 rfl rfl)
theorem dX3_valueAt_6 : decode cX3_valueAt 6 = .ok (.iload 5, 2) := dk_21 5 (dk_at dksX3_valueAt_0 6 rfl rfl)
theorem dX3_valueAt_8 : decode cX3_valueAt 8 = .ok (.iload_n 2, 1) := dk_28 (dk_at dksX3_valueAt_0 8 rfl rfl)
theorem dX3_valueAt_9 : decode cX3_valueAt 9 = .ok (.if_icmp .ge 118, 3) := dk_162 0 118 (dk_at dksX3_valueAt_0 9 rfl rfl)
theorem dX3_valueAt_12 : decode cX3_valueAt 12 = .ok (.aload_n 0, 1) := dk_42 (dk_at dksX3_valueAt_0 12 rfl rfl)
theorem dX3_valueAt_13 : decode cX3_valueAt 13 = .ok (.iload_n 1, 1) := dk_27 (dk_at dksX3_valueAt_0 13 rfl rfl)
theorem dX3_valueAt_14 : decode cX3_valueAt 14 = .ok (.aload_n 0, 1) := dk_42 (dk_at dksX3_valueAt_0 14 rfl rfl)
theorem dX3_valueAt_15 : decode cX3_valueAt 15 = .ok (.getfield 19, 3) := dk_180 0 19 (dk_at dksX3_valueAt_0 15 rfl rfl)
theorem dX3_valueAt_18 : decode cX3_valueAt 18 = .ok (.iload 5, 2) := dk_21 5 (dk_at dksX3_valueAt_0 18 rfl rfl)
theorem dX3_valueAt_20 : decode cX3_valueAt 20 = .ok (.iaload, 1) := dk_46 (dk_at dksX3_valueAt_0 20 rfl rfl)
theorem dX3_valueAt_21 : decode cX3_valueAt 21 = .ok (.iconst 1, 1) := dk_4 (dk_at dksX3_valueAt_0 21 rfl rfl)
theorem dX3_valueAt_22 : decode cX3_valueAt 22 = .ok (.invokevirtual 57, 3) := dk_182 0 57 (dk_at dksX3_valueAt_1 0 rfl rfl)
theorem dX3_valueAt_25 : decode cX3_valueAt 25 = .ok (.istore 6, 2) := dk_54 6 (dk_at dksX3_valueAt_1 3 rfl rfl)
theorem dX3_valueAt_27 : decode cX3_valueAt 27 = .ok (.iconst 0, 1) := dk_3 (dk_at dksX3_valueAt_1 5 rfl rfl)
theorem dX3_valueAt_28 : decode cX3_valueAt 28 = .ok (.istore 7, 2) := dk_54 7 (dk_at dksX3_valueAt_1 6 rfl rfl)
theorem dX3_valueAt_30 : decode cX3_valueAt 30 = .ok (.iload 7, 2) := dk_21 7 (dk_at dksX3_valueAt_1 8 rfl rfl)
theorem dX3_valueAt_32 : decode cX3_valueAt 32 = .ok (.iload_n 2, 1) := dk_28 (dk_at dksX3_valueAt_1 10 rfl rfl)
theorem dX3_valueAt_33 : decode cX3_valueAt 33 = .ok (.if_icmp .ge 77, 3) := dk_162 0 77 (dk_at dksX3_valueAt_1 11 rfl rfl)
theorem dX3_valueAt_36 : decode cX3_valueAt 36 = .ok (.iload 7, 2) := dk_21 7 (dk_at dksX3_valueAt_1 14 rfl rfl)
theorem dX3_valueAt_38 : decode cX3_valueAt 38 = .ok (.iload 5, 2) := dk_21 5 (dk_at dksX3_valueAt_1 16 rfl rfl)
theorem dX3_valueAt_40 : decode cX3_valueAt 40 = .ok (.if_icmp .eq 64, 3) := dk_159 0 64 (dk_at dksX3_valueAt_1 18 rfl rfl)
theorem dX3_valueAt_43 : decode cX3_valueAt 43 = .ok (.iload 6, 2) := dk_21 6 (dk_at dksX3_valueAt_1 21 rfl rfl)
theorem dX3_valueAt_45 : decode cX3_valueAt 45 = .ok (.iload_n 3, 1) := dk_29 (dk_at dksX3_valueAt_1 23 rfl rfl)
theorem dX3_valueAt_46 : decode cX3_valueAt 46 = .ok (.aload_n 0, 1) := dk_42 (dk_at dksX3_valueAt_2 0 rfl rfl)
theorem dX3_valueAt_47 : decode cX3_valueAt 47 = .ok (.getfield 19, 3) := dk_180 0 19 (dk_at dksX3_valueAt_2 1 rfl rfl)
theorem dX3_valueAt_50 : decode cX3_valueAt 50 = .ok (.iload 7, 2) := dk_21 7 (dk_at dksX3_valueAt_2 4 rfl rfl)
theorem dX3_valueAt_52 : decode cX3_valueAt 52 = .ok (.iaload, 1) := dk_46 (dk_at dksX3_valueAt_2 6 rfl rfl)
theorem dX3_valueAt_53 : decode cX3_valueAt 53 = .ok (.isub, 1) := dk_100 (dk_at dksX3_valueAt_2 7 rfl rfl)
theorem dX3_valueAt_54 : decode cX3_valueAt 54 = .ok (.sipush 1019, 3) := dk_17 3 251 (dk_at dksX3_valueAt_2 8 rfl rfl)
theorem dX3_valueAt_57 : decode cX3_valueAt 57 = .ok (.iadd, 1) := dk_96 (dk_at dksX3_valueAt_2 11 rfl rfl)
theorem dX3_valueAt_58 : decode cX3_valueAt 58 = .ok (.sipush 1019, 3) := dk_17 3 251 (dk_at dksX3_valueAt_2 12 rfl rfl)
theorem dX3_valueAt_61 : decode cX3_valueAt 61 = .ok (.irem, 1) := dk_112 (dk_at dksX3_valueAt_2 15 rfl rfl)
theorem dX3_valueAt_62 : decode cX3_valueAt 62 = .ok (.imul, 1) := dk_104 (dk_at dksX3_valueAt_2 16 rfl rfl)
theorem dX3_valueAt_63 : decode cX3_valueAt 63 = .ok (.sipush 1019, 3) := dk_17 3 251 (dk_at dksX3_valueAt_2 17 rfl rfl)
theorem dX3_valueAt_66 : decode cX3_valueAt 66 = .ok (.irem, 1) := dk_112 (dk_at dksX3_valueAt_2 20 rfl rfl)
theorem dX3_valueAt_67 : decode cX3_valueAt 67 = .ok (.istore 6, 2) := dk_54 6 (dk_at dksX3_valueAt_2 21 rfl rfl)
theorem dX3_valueAt_69 : decode cX3_valueAt 69 = .ok (.iload 6, 2) := dk_21 6 (dk_at dksX3_valueAt_3 0 rfl rfl)
theorem dX3_valueAt_71 : decode cX3_valueAt 71 = .ok (.aload_n 0, 1) := dk_42 (dk_at dksX3_valueAt_3 2 rfl rfl)
theorem dX3_valueAt_72 : decode cX3_valueAt 72 = .ok (.getfield 19, 3) := dk_180 0 19 (dk_at dksX3_valueAt_3 3 rfl rfl)
theorem dX3_valueAt_75 : decode cX3_valueAt 75 = .ok (.iload 5, 2) := dk_21 5 (dk_at dksX3_valueAt_3 6 rfl rfl)
theorem dX3_valueAt_77 : decode cX3_valueAt 77 = .ok (.iaload, 1) := dk_46 (dk_at dksX3_valueAt_3 8 rfl rfl)
theorem dX3_valueAt_78 : decode cX3_valueAt 78 = .ok (.aload_n 0, 1) := dk_42 (dk_at dksX3_valueAt_3 9 rfl rfl)
theorem dX3_valueAt_79 : decode cX3_valueAt 79 = .ok (.getfield 19, 3) := dk_180 0 19 (dk_at dksX3_valueAt_3 10 rfl rfl)
theorem dX3_valueAt_82 : decode cX3_valueAt 82 = .ok (.iload 7, 2) := dk_21 7 (dk_at dksX3_valueAt_3 13 rfl rfl)
theorem dX3_valueAt_84 : decode cX3_valueAt 84 = .ok (.iaload, 1) := dk_46 (dk_at dksX3_valueAt_3 15 rfl rfl)
theorem dX3_valueAt_85 : decode cX3_valueAt 85 = .ok (.isub, 1) := dk_100 (dk_at dksX3_valueAt_3 16 rfl rfl)
theorem dX3_valueAt_86 : decode cX3_valueAt 86 = .ok (.sipush 1019, 3) := dk_17 3 251 (dk_at dksX3_valueAt_3 17 rfl rfl)
theorem dX3_valueAt_89 : decode cX3_valueAt 89 = .ok (.iadd, 1) := dk_96 (dk_at dksX3_valueAt_3 20 rfl rfl)
theorem dX3_valueAt_90 : decode cX3_valueAt 90 = .ok (.sipush 1019, 3) := dk_17 3 251 (dk_at dksX3_valueAt_3 21 rfl rfl)
theorem dX3_valueAt_93 : decode cX3_valueAt 93 = .ok (.irem, 1) := dk_112 (dk_at dksX3_valueAt_4 0 rfl rfl)
theorem dX3_valueAt_94 : decode cX3_valueAt 94 = .ok (.invokestatic 124, 3) := dk_184 0 124 (dk_at dksX3_valueAt_4 1 rfl rfl)
theorem dX3_valueAt_97 : decode cX3_valueAt 97 = .ok (.imul, 1) := dk_104 (dk_at dksX3_valueAt_4 4 rfl rfl)
theorem dX3_valueAt_98 : decode cX3_valueAt 98 = .ok (.sipush 1019, 3) := dk_17 3 251 (dk_at dksX3_valueAt_4 5 rfl rfl)
theorem dX3_valueAt_101 : decode cX3_valueAt 101 = .ok (.irem, 1) := dk_112 (dk_at dksX3_valueAt_4 8 rfl rfl)
theorem dX3_valueAt_102 : decode cX3_valueAt 102 = .ok (.istore 6, 2) := dk_54 6 (dk_at dksX3_valueAt_4 9 rfl rfl)
theorem dX3_valueAt_104 : decode cX3_valueAt 104 = .ok (.iinc 7 1, 3) := dk_132 7 1 (dk_at dksX3_valueAt_4 11 rfl rfl)
theorem dX3_valueAt_107 : decode cX3_valueAt 107 = .ok (.goto (-77), 3) := dk_167 255 179 (dk_at dksX3_valueAt_4 14 rfl rfl)
theorem dX3_valueAt_110 : decode cX3_valueAt 110 = .ok (.iload 4, 2) := dk_21 4 (dk_at dksX3_valueAt_4 17 rfl rfl)
theorem dX3_valueAt_112 : decode cX3_valueAt 112 = .ok (.iload 6, 2) := dk_21 6 (dk_at dksX3_valueAt_4 19 rfl rfl)
theorem dX3_valueAt_114 : decode cX3_valueAt 114 = .ok (.iadd, 1) := dk_96 (dk_at dksX3_valueAt_4 21 rfl rfl)
theorem dX3_valueAt_115 : decode cX3_valueAt 115 = .ok (.sipush 1019, 3) := dk_17 3 251 (dk_at dksX3_valueAt_5 0 rfl rfl)
theorem dX3_valueAt_118 : decode cX3_valueAt 118 = .ok (.irem, 1) := dk_112 (dk_at dksX3_valueAt_5 3 rfl rfl)
theorem dX3_valueAt_119 : decode cX3_valueAt 119 = .ok (.istore 4, 2) := dk_54 4 (dk_at dksX3_valueAt_5 4 rfl rfl)
theorem dX3_valueAt_121 : decode cX3_valueAt 121 = .ok (.iinc 5 1, 3) := dk_132 5 1 (dk_at dksX3_valueAt_5 6 rfl rfl)
theorem dX3_valueAt_124 : decode cX3_valueAt 124 = .ok (.goto (-118), 3) := dk_167 255 138 (dk_at dksX3_valueAt_5 9 rfl rfl)
theorem dX3_valueAt_127 : decode cX3_valueAt 127 = .ok (.iload 4, 2) := dk_21 4 (dk_at dksX3_valueAt_5 12 rfl rfl)
theorem dX3_valueAt_129 : decode cX3_valueAt 129 = .ok (.ireturn, 1) := dk_172 (dk_at dksX3_valueAt_5 14 rfl rfl)
abbrev cX3_inverse : ByteArray := prog_27_method_21_code
def yX3_inverse : MethodName := ⟨RX3, "inverse", "(I)I"⟩
def dkwX3_inverse_0 : List UInt8 := [26, 17, 3, 249, 17, 3, 251, 184, 0, 65, 172]
abbrev dktX3_inverse_0 : List UInt8 := dkwX3_inverse_0 ++ []
theorem dksX3_inverse_0 : cX3_inverse.data.toList.drop 0 = dktX3_inverse_0 := by decide +kernel
theorem dX3_inverse_0 : decode cX3_inverse 0 = .ok (.iload_n 0, 1) := dk_26 (dk_at dksX3_inverse_0 0 rfl rfl)
theorem dX3_inverse_1 : decode cX3_inverse 1 = .ok (.sipush 1017, 3) := dk_17 3 249 (dk_at dksX3_inverse_0 1 rfl rfl)
theorem dX3_inverse_4 : decode cX3_inverse 4 = .ok (.sipush 1019, 3) := dk_17 3 251 (dk_at dksX3_inverse_0 4 rfl rfl)
theorem dX3_inverse_7 : decode cX3_inverse 7 = .ok (.invokestatic 65, 3) := dk_184 0 65 (dk_at dksX3_inverse_0 7 rfl rfl)
theorem dX3_inverse_10 : decode cX3_inverse 10 = .ok (.ireturn, 1) := dk_172 (dk_at dksX3_inverse_0 10 rfl rfl)
abbrev cX3_enroll : ByteArray := prog_27_method_50_code
def yX3_enroll : MethodName := ⟨RX3, "enroll", "(III)I"⟩
def dkwX3_enroll_7 : List UInt8 := [21, 5, 182, 0, 69, 172]
abbrev dktX3_enroll_7 : List UInt8 := dkwX3_enroll_7 ++ []
def dkwX3_enroll_6 : List UInt8 := [132, 5, 1, 132, 6, 1, 167, 255, 197, 42, 17, 1, 244, 16, 10, 27, 104, 96, 29, 96, 182, 0, 117, 42]
abbrev dktX3_enroll_6 : List UInt8 := dkwX3_enroll_6 ++ dktX3_enroll_7
def dkwX3_enroll_5 : List UInt8 := [154, 0, 26, 42, 27, 21, 7, 42, 180, 0, 28, 21, 6, 46, 42, 27, 5, 182, 0, 49, 182, 0, 103]
abbrev dktX3_enroll_5 : List UInt8 := dkwX3_enroll_5 ++ dktX3_enroll_6
def dkwX3_enroll_4 : List UInt8 := [29, 96, 46, 162, 0, 52, 6, 29, 104, 4, 96, 21, 6, 96, 54, 7, 42, 27, 21, 7, 182, 0, 174]
abbrev dktX3_enroll_4 : List UInt8 := dkwX3_enroll_4 ++ dktX3_enroll_5
def dkwX3_enroll_3 : List UInt8 := [96, 21, 6, 96, 182, 0, 171, 79, 132, 6, 1, 167, 255, 221, 3, 54, 6, 21, 6, 42, 180, 0, 7, 4]
abbrev dktX3_enroll_3 : List UInt8 := dkwX3_enroll_3 ++ dktX3_enroll_4
def dkwX3_enroll_2 : List UInt8 := [21, 6, 6, 162, 0, 35, 42, 180, 0, 28, 21, 6, 42, 27, 42, 27, 4, 182, 0, 49, 6, 29, 104, 4]
abbrev dktX3_enroll_2 : List UInt8 := dkwX3_enroll_2 ++ dktX3_enroll_3
def dkwX3_enroll_1 : List UInt8 := [182, 0, 168, 54, 4, 21, 4, 153, 0, 10, 42, 21, 4, 182, 0, 80, 172, 3, 54, 5, 3, 54, 6]
abbrev dktX3_enroll_1 : List UInt8 := dkwX3_enroll_1 ++ dktX3_enroll_2
def dkwX3_enroll_0 : List UInt8 := [27, 184, 0, 107, 153, 0, 10, 29, 184, 0, 76, 154, 0, 9, 42, 4, 182, 0, 80, 172, 42, 27, 28]
abbrev dktX3_enroll_0 : List UInt8 := dkwX3_enroll_0 ++ dktX3_enroll_1
theorem dksX3_enroll_0 : cX3_enroll.data.toList.drop 0 = dktX3_enroll_0 := by decide +kernel
theorem dksX3_enroll_1 : cX3_enroll.data.toList.drop 23 = dktX3_enroll_1 := dk_seg dksX3_enroll_0 23 rfl rfl
theorem dksX3_enroll_2 : cX3_enroll.data.toList.drop 46 = dktX3_enroll_2 := dk_seg dksX3_enroll_1 23 rfl rfl
theorem dksX3_enroll_3 : cX3_enroll.data.toList.drop 70 = dktX3_enroll_3 := dk_seg dksX3_enroll_2 24 rfl rfl
theorem dksX3_enroll_4 : cX3_enroll.data.toList.drop 94 = dktX3_enroll_4 := dk_seg dksX3_enroll_3 24 rfl rfl
theorem dksX3_enroll_5 : cX3_enroll.data.toList.drop 117 = dktX3_enroll_5 := dk_seg dksX3_enroll_4 23 rfl rfl
theorem dksX3_enroll_6 : cX3_enroll.data.toList.drop 140 = dktX3_enroll_6 := dk_seg dksX3_enroll_5 23 rfl rfl
theorem dksX3_enroll_7 : cX3_enroll.data.toList.drop 164 = dktX3_enroll_7 := dk_seg dksX3_enroll_6 24 rfl rfl
theorem dX3_enroll_0 : decode cX3_enroll 0 = .ok (.iload_n 1, 1) := dk_27 (dk_at dksX3_enroll_0 0 rfl rfl)
theorem dX3_enroll_1 : decode cX3_enroll 1 = .ok (.invokestatic 107, 3) := dk_184 0 107 (dk_at dksX3_enroll_0 1 rfl rfl)
theorem dX3_enroll_4 : decode cX3_enroll 4 = .ok (.ifCond .eq 10, 3) := dk_153 0 10 (dk_at dksX3_enroll_0 4 rfl rfl)
theorem dX3_enroll_7 : decode cX3_enroll 7 = .ok (.iload_n 3, 1) := dk_29 (dk_at dksX3_enroll_0 7 rfl rfl)
theorem dX3_enroll_8 : decode cX3_enroll 8 = .ok (.invokestatic 76, 3) := dk_184 0 76 (dk_at dksX3_enroll_0 8 rfl rfl)
theorem dX3_enroll_11 : decode cX3_enroll 11 = .ok (.ifCond .ne 9, 3) := dk_154 0 9 (dk_at dksX3_enroll_0 11 rfl rfl)
theorem dX3_enroll_14 : decode cX3_enroll 14 = .ok (.aload_n 0, 1) := dk_42 (dk_at dksX3_enroll_0 14 rfl rfl)
theorem dX3_enroll_15 : decode cX3_enroll 15 = .ok (.iconst 1, 1) := dk_4 (dk_at dksX3_enroll_0 15 rfl rfl)
theorem dX3_enroll_16 : decode cX3_enroll 16 = .ok (.invokevirtual 80, 3) := dk_182 0 80 (dk_at dksX3_enroll_0 16 rfl rfl)
theorem dX3_enroll_19 : decode cX3_enroll 19 = .ok (.ireturn, 1) := dk_172 (dk_at dksX3_enroll_0 19 rfl rfl)
theorem dX3_enroll_20 : decode cX3_enroll 20 = .ok (.aload_n 0, 1) := dk_42 (dk_at dksX3_enroll_0 20 rfl rfl)
theorem dX3_enroll_21 : decode cX3_enroll 21 = .ok (.iload_n 1, 1) := dk_27 (dk_at dksX3_enroll_0 21 rfl rfl)
theorem dX3_enroll_22 : decode cX3_enroll 22 = .ok (.iload_n 2, 1) := dk_28 (dk_at dksX3_enroll_0 22 rfl rfl)
theorem dX3_enroll_23 : decode cX3_enroll 23 = .ok (.invokevirtual 168, 3) := dk_182 0 168 (dk_at dksX3_enroll_1 0 rfl rfl)
theorem dX3_enroll_26 : decode cX3_enroll 26 = .ok (.istore 4, 2) := dk_54 4 (dk_at dksX3_enroll_1 3 rfl rfl)
theorem dX3_enroll_28 : decode cX3_enroll 28 = .ok (.iload 4, 2) := dk_21 4 (dk_at dksX3_enroll_1 5 rfl rfl)
theorem dX3_enroll_30 : decode cX3_enroll 30 = .ok (.ifCond .eq 10, 3) := dk_153 0 10 (dk_at dksX3_enroll_1 7 rfl rfl)
theorem dX3_enroll_33 : decode cX3_enroll 33 = .ok (.aload_n 0, 1) := dk_42 (dk_at dksX3_enroll_1 10 rfl rfl)
theorem dX3_enroll_34 : decode cX3_enroll 34 = .ok (.iload 4, 2) := dk_21 4 (dk_at dksX3_enroll_1 11 rfl rfl)
theorem dX3_enroll_36 : decode cX3_enroll 36 = .ok (.invokevirtual 80, 3) := dk_182 0 80 (dk_at dksX3_enroll_1 13 rfl rfl)
theorem dX3_enroll_39 : decode cX3_enroll 39 = .ok (.ireturn, 1) := dk_172 (dk_at dksX3_enroll_1 16 rfl rfl)
theorem dX3_enroll_40 : decode cX3_enroll 40 = .ok (.iconst 0, 1) := dk_3 (dk_at dksX3_enroll_1 17 rfl rfl)
theorem dX3_enroll_41 : decode cX3_enroll 41 = .ok (.istore 5, 2) := dk_54 5 (dk_at dksX3_enroll_1 18 rfl rfl)
theorem dX3_enroll_43 : decode cX3_enroll 43 = .ok (.iconst 0, 1) := dk_3 (dk_at dksX3_enroll_1 20 rfl rfl)
theorem dX3_enroll_44 : decode cX3_enroll 44 = .ok (.istore 6, 2) := dk_54 6 (dk_at dksX3_enroll_1 21 rfl rfl)
theorem dX3_enroll_46 : decode cX3_enroll 46 = .ok (.iload 6, 2) := dk_21 6 (dk_at dksX3_enroll_2 0 rfl rfl)
theorem dX3_enroll_48 : decode cX3_enroll 48 = .ok (.iconst 3, 1) := dk_6 (dk_at dksX3_enroll_2 2 rfl rfl)
theorem dX3_enroll_49 : decode cX3_enroll 49 = .ok (.if_icmp .ge 35, 3) := dk_162 0 35 (dk_at dksX3_enroll_2 3 rfl rfl)
theorem dX3_enroll_52 : decode cX3_enroll 52 = .ok (.aload_n 0, 1) := dk_42 (dk_at dksX3_enroll_2 6 rfl rfl)
theorem dX3_enroll_53 : decode cX3_enroll 53 = .ok (.getfield 28, 3) := dk_180 0 28 (dk_at dksX3_enroll_2 7 rfl rfl)
theorem dX3_enroll_56 : decode cX3_enroll 56 = .ok (.iload 6, 2) := dk_21 6 (dk_at dksX3_enroll_2 10 rfl rfl)
theorem dX3_enroll_58 : decode cX3_enroll 58 = .ok (.aload_n 0, 1) := dk_42 (dk_at dksX3_enroll_2 12 rfl rfl)
theorem dX3_enroll_59 : decode cX3_enroll 59 = .ok (.iload_n 1, 1) := dk_27 (dk_at dksX3_enroll_2 13 rfl rfl)
theorem dX3_enroll_60 : decode cX3_enroll 60 = .ok (.aload_n 0, 1) := dk_42 (dk_at dksX3_enroll_2 14 rfl rfl)
theorem dX3_enroll_61 : decode cX3_enroll 61 = .ok (.iload_n 1, 1) := dk_27 (dk_at dksX3_enroll_2 15 rfl rfl)
theorem dX3_enroll_62 : decode cX3_enroll 62 = .ok (.iconst 1, 1) := dk_4 (dk_at dksX3_enroll_2 16 rfl rfl)
theorem dX3_enroll_63 : decode cX3_enroll 63 = .ok (.invokevirtual 49, 3) := dk_182 0 49 (dk_at dksX3_enroll_2 17 rfl rfl)
theorem dX3_enroll_66 : decode cX3_enroll 66 = .ok (.iconst 3, 1) := dk_6 (dk_at dksX3_enroll_2 20 rfl rfl)
theorem dX3_enroll_67 : decode cX3_enroll 67 = .ok (.iload_n 3, 1) := dk_29 (dk_at dksX3_enroll_2 21 rfl rfl)
theorem dX3_enroll_68 : decode cX3_enroll 68 = .ok (.imul, 1) := dk_104 (dk_at dksX3_enroll_2 22 rfl rfl)
theorem dX3_enroll_69 : decode cX3_enroll 69 = .ok (.iconst 1, 1) := dk_4 (dk_at dksX3_enroll_2 23 rfl rfl)
theorem dX3_enroll_70 : decode cX3_enroll 70 = .ok (.iadd, 1) := dk_96 (dk_at dksX3_enroll_3 0 rfl rfl)
theorem dX3_enroll_71 : decode cX3_enroll 71 = .ok (.iload 6, 2) := dk_21 6 (dk_at dksX3_enroll_3 1 rfl rfl)
theorem dX3_enroll_73 : decode cX3_enroll 73 = .ok (.iadd, 1) := dk_96 (dk_at dksX3_enroll_3 3 rfl rfl)
theorem dX3_enroll_74 : decode cX3_enroll 74 = .ok (.invokevirtual 171, 3) := dk_182 0 171 (dk_at dksX3_enroll_3 4 rfl rfl)
theorem dX3_enroll_77 : decode cX3_enroll 77 = .ok (.iastore, 1) := dk_79 (dk_at dksX3_enroll_3 7 rfl rfl)
theorem dX3_enroll_78 : decode cX3_enroll 78 = .ok (.iinc 6 1, 3) := dk_132 6 1 (dk_at dksX3_enroll_3 8 rfl rfl)
theorem dX3_enroll_81 : decode cX3_enroll 81 = .ok (.goto (-35), 3) := dk_167 255 221 (dk_at dksX3_enroll_3 11 rfl rfl)
theorem dX3_enroll_84 : decode cX3_enroll 84 = .ok (.iconst 0, 1) := dk_3 (dk_at dksX3_enroll_3 14 rfl rfl)
theorem dX3_enroll_85 : decode cX3_enroll 85 = .ok (.istore 6, 2) := dk_54 6 (dk_at dksX3_enroll_3 15 rfl rfl)
theorem dX3_enroll_87 : decode cX3_enroll 87 = .ok (.iload 6, 2) := dk_21 6 (dk_at dksX3_enroll_3 17 rfl rfl)
theorem dX3_enroll_89 : decode cX3_enroll 89 = .ok (.aload_n 0, 1) := dk_42 (dk_at dksX3_enroll_3 19 rfl rfl)
theorem dX3_enroll_90 : decode cX3_enroll 90 = .ok (.getfield 7, 3) := dk_180 0 7 (dk_at dksX3_enroll_3 20 rfl rfl)
theorem dX3_enroll_93 : decode cX3_enroll 93 = .ok (.iconst 1, 1) := dk_4 (dk_at dksX3_enroll_3 23 rfl rfl)
theorem dX3_enroll_94 : decode cX3_enroll 94 = .ok (.iload_n 3, 1) := dk_29 (dk_at dksX3_enroll_4 0 rfl rfl)
theorem dX3_enroll_95 : decode cX3_enroll 95 = .ok (.iadd, 1) := dk_96 (dk_at dksX3_enroll_4 1 rfl rfl)
theorem dX3_enroll_96 : decode cX3_enroll 96 = .ok (.iaload, 1) := dk_46 (dk_at dksX3_enroll_4 2 rfl rfl)
theorem dX3_enroll_97 : decode cX3_enroll 97 = .ok (.if_icmp .ge 52, 3) := dk_162 0 52 (dk_at dksX3_enroll_4 3 rfl rfl)
theorem dX3_enroll_100 : decode cX3_enroll 100 = .ok (.iconst 3, 1) := dk_6 (dk_at dksX3_enroll_4 6 rfl rfl)
theorem dX3_enroll_101 : decode cX3_enroll 101 = .ok (.iload_n 3, 1) := dk_29 (dk_at dksX3_enroll_4 7 rfl rfl)
theorem dX3_enroll_102 : decode cX3_enroll 102 = .ok (.imul, 1) := dk_104 (dk_at dksX3_enroll_4 8 rfl rfl)
theorem dX3_enroll_103 : decode cX3_enroll 103 = .ok (.iconst 1, 1) := dk_4 (dk_at dksX3_enroll_4 9 rfl rfl)
theorem dX3_enroll_104 : decode cX3_enroll 104 = .ok (.iadd, 1) := dk_96 (dk_at dksX3_enroll_4 10 rfl rfl)
theorem dX3_enroll_105 : decode cX3_enroll 105 = .ok (.iload 6, 2) := dk_21 6 (dk_at dksX3_enroll_4 11 rfl rfl)
theorem dX3_enroll_107 : decode cX3_enroll 107 = .ok (.iadd, 1) := dk_96 (dk_at dksX3_enroll_4 13 rfl rfl)
theorem dX3_enroll_108 : decode cX3_enroll 108 = .ok (.istore 7, 2) := dk_54 7 (dk_at dksX3_enroll_4 14 rfl rfl)
theorem dX3_enroll_110 : decode cX3_enroll 110 = .ok (.aload_n 0, 1) := dk_42 (dk_at dksX3_enroll_4 16 rfl rfl)
theorem dX3_enroll_111 : decode cX3_enroll 111 = .ok (.iload_n 1, 1) := dk_27 (dk_at dksX3_enroll_4 17 rfl rfl)
theorem dX3_enroll_112 : decode cX3_enroll 112 = .ok (.iload 7, 2) := dk_21 7 (dk_at dksX3_enroll_4 18 rfl rfl)
theorem dX3_enroll_114 : decode cX3_enroll 114 = .ok (.invokevirtual 174, 3) := dk_182 0 174 (dk_at dksX3_enroll_4 20 rfl rfl)
theorem dX3_enroll_117 : decode cX3_enroll 117 = .ok (.ifCond .ne 26, 3) := dk_154 0 26 (dk_at dksX3_enroll_5 0 rfl rfl)
theorem dX3_enroll_120 : decode cX3_enroll 120 = .ok (.aload_n 0, 1) := dk_42 (dk_at dksX3_enroll_5 3 rfl rfl)
theorem dX3_enroll_121 : decode cX3_enroll 121 = .ok (.iload_n 1, 1) := dk_27 (dk_at dksX3_enroll_5 4 rfl rfl)
theorem dX3_enroll_122 : decode cX3_enroll 122 = .ok (.iload 7, 2) := dk_21 7 (dk_at dksX3_enroll_5 5 rfl rfl)
theorem dX3_enroll_124 : decode cX3_enroll 124 = .ok (.aload_n 0, 1) := dk_42 (dk_at dksX3_enroll_5 7 rfl rfl)
theorem dX3_enroll_125 : decode cX3_enroll 125 = .ok (.getfield 28, 3) := dk_180 0 28 (dk_at dksX3_enroll_5 8 rfl rfl)
theorem dX3_enroll_128 : decode cX3_enroll 128 = .ok (.iload 6, 2) := dk_21 6 (dk_at dksX3_enroll_5 11 rfl rfl)
theorem dX3_enroll_130 : decode cX3_enroll 130 = .ok (.iaload, 1) := dk_46 (dk_at dksX3_enroll_5 13 rfl rfl)
theorem dX3_enroll_131 : decode cX3_enroll 131 = .ok (.aload_n 0, 1) := dk_42 (dk_at dksX3_enroll_5 14 rfl rfl)
theorem dX3_enroll_132 : decode cX3_enroll 132 = .ok (.iload_n 1, 1) := dk_27 (dk_at dksX3_enroll_5 15 rfl rfl)
theorem dX3_enroll_133 : decode cX3_enroll 133 = .ok (.iconst 2, 1) := dk_5 (dk_at dksX3_enroll_5 16 rfl rfl)
theorem dX3_enroll_134 : decode cX3_enroll 134 = .ok (.invokevirtual 49, 3) := dk_182 0 49 (dk_at dksX3_enroll_5 17 rfl rfl)
theorem dX3_enroll_137 : decode cX3_enroll 137 = .ok (.invokevirtual 103, 3) := dk_182 0 103 (dk_at dksX3_enroll_5 20 rfl rfl)
theorem dX3_enroll_140 : decode cX3_enroll 140 = .ok (.iinc 5 1, 3) := dk_132 5 1 (dk_at dksX3_enroll_6 0 rfl rfl)
theorem dX3_enroll_143 : decode cX3_enroll 143 = .ok (.iinc 6 1, 3) := dk_132 6 1 (dk_at dksX3_enroll_6 3 rfl rfl)
theorem dX3_enroll_146 : decode cX3_enroll 146 = .ok (.goto (-59), 3) := dk_167 255 197 (dk_at dksX3_enroll_6 6 rfl rfl)
theorem dX3_enroll_149 : decode cX3_enroll 149 = .ok (.aload_n 0, 1) := dk_42 (dk_at dksX3_enroll_6 9 rfl rfl)
theorem dX3_enroll_150 : decode cX3_enroll 150 = .ok (.sipush 500, 3) := dk_17 1 244 (dk_at dksX3_enroll_6 10 rfl rfl)
theorem dX3_enroll_153 : decode cX3_enroll 153 = .ok (.bipush 10, 2) := dk_16 10 (dk_at dksX3_enroll_6 13 rfl rfl)
theorem dX3_enroll_155 : decode cX3_enroll 155 = .ok (.iload_n 1, 1) := dk_27 (dk_at dksX3_enroll_6 15 rfl rfl)
theorem dX3_enroll_156 : decode cX3_enroll 156 = .ok (.imul, 1) := dk_104 (dk_at dksX3_enroll_6 16 rfl rfl)
theorem dX3_enroll_157 : decode cX3_enroll 157 = .ok (.iadd, 1) := dk_96 (dk_at dksX3_enroll_6 17 rfl rfl)
theorem dX3_enroll_158 : decode cX3_enroll 158 = .ok (.iload_n 3, 1) := dk_29 (dk_at dksX3_enroll_6 18 rfl rfl)
theorem dX3_enroll_159 : decode cX3_enroll 159 = .ok (.iadd, 1) := dk_96 (dk_at dksX3_enroll_6 19 rfl rfl)
theorem dX3_enroll_160 : decode cX3_enroll 160 = .ok (.invokevirtual 117, 3) := dk_182 0 117 (dk_at dksX3_enroll_6 20 rfl rfl)
theorem dX3_enroll_163 : decode cX3_enroll 163 = .ok (.aload_n 0, 1) := dk_42 (dk_at dksX3_enroll_6 23 rfl rfl)
theorem dX3_enroll_164 : decode cX3_enroll 164 = .ok (.iload 5, 2) := dk_21 5 (dk_at dksX3_enroll_7 0 rfl rfl)
theorem dX3_enroll_166 : decode cX3_enroll 166 = .ok (.invokevirtual 69, 3) := dk_182 0 69 (dk_at dksX3_enroll_7 2 rfl rfl)
theorem dX3_enroll_169 : decode cX3_enroll 169 = .ok (.ireturn, 1) := dk_172 (dk_at dksX3_enroll_7 5 rfl rfl)
abbrev cX3_isGood : ByteArray := prog_27_method_29_code
def yX3_isGood : MethodName := ⟨RX3, "isGood", "(II)Z"⟩
def dkwX3_isGood_0 : List UInt8 := [42, 27, 28, 182, 0, 86, 153, 0, 16, 42, 27, 28, 182, 0, 90, 154, 0, 7, 4, 167, 0, 4, 3, 172]
abbrev dktX3_isGood_0 : List UInt8 := dkwX3_isGood_0 ++ []
theorem dksX3_isGood_0 : cX3_isGood.data.toList.drop 0 = dktX3_isGood_0 := by decide +kernel
theorem dX3_isGood_0 : decode cX3_isGood 0 = .ok (.aload_n 0, 1) := dk_42 (dk_at dksX3_isGood_0 0 rfl rfl)
theorem dX3_isGood_1 : decode cX3_isGood 1 = .ok (.iload_n 1, 1) := dk_27 (dk_at dksX3_isGood_0 1 rfl rfl)
theorem dX3_isGood_2 : decode cX3_isGood 2 = .ok (.iload_n 2, 1) := dk_28 (dk_at dksX3_isGood_0 2 rfl rfl)
theorem dX3_isGood_3 : decode cX3_isGood 3 = .ok (.invokevirtual 86, 3) := dk_182 0 86 (dk_at dksX3_isGood_0 3 rfl rfl)
theorem dX3_isGood_6 : decode cX3_isGood 6 = .ok (.ifCond .eq 16, 3) := dk_153 0 16 (dk_at dksX3_isGood_0 6 rfl rfl)
theorem dX3_isGood_9 : decode cX3_isGood 9 = .ok (.aload_n 0, 1) := dk_42 (dk_at dksX3_isGood_0 9 rfl rfl)
theorem dX3_isGood_10 : decode cX3_isGood 10 = .ok (.iload_n 1, 1) := dk_27 (dk_at dksX3_isGood_0 10 rfl rfl)
theorem dX3_isGood_11 : decode cX3_isGood 11 = .ok (.iload_n 2, 1) := dk_28 (dk_at dksX3_isGood_0 11 rfl rfl)
theorem dX3_isGood_12 : decode cX3_isGood 12 = .ok (.invokevirtual 90, 3) := dk_182 0 90 (dk_at dksX3_isGood_0 12 rfl rfl)
theorem dX3_isGood_15 : decode cX3_isGood 15 = .ok (.ifCond .ne 7, 3) := dk_154 0 7 (dk_at dksX3_isGood_0 15 rfl rfl)
theorem dX3_isGood_18 : decode cX3_isGood 18 = .ok (.iconst 1, 1) := dk_4 (dk_at dksX3_isGood_0 18 rfl rfl)
theorem dX3_isGood_19 : decode cX3_isGood 19 = .ok (.goto 4, 3) := dk_167 0 4 (dk_at dksX3_isGood_0 19 rfl rfl)
theorem dX3_isGood_22 : decode cX3_isGood 22 = .ok (.iconst 0, 1) := dk_3 (dk_at dksX3_isGood_0 22 rfl rfl)
theorem dX3_isGood_23 : decode cX3_isGood 23 = .ok (.ireturn, 1) := dk_172 (dk_at dksX3_isGood_0 23 rfl rfl)
abbrev cX3_expel : ByteArray := prog_27_method_51_code
def yX3_expel : MethodName := ⟨RX3, "expel", "(II)I"⟩
def dkwX3_expel_4 : List UInt8 := [96, 182, 0, 117, 42, 29, 182, 0, 69, 172]
abbrev dktX3_expel_4 : List UInt8 := dkwX3_expel_4 ++ []
def dkwX3_expel_3 : List UInt8 := [62, 42, 27, 21, 4, 182, 0, 93, 132, 4, 1, 167, 255, 218, 42, 17, 2, 88, 16, 10, 27, 104, 96, 28]
abbrev dktX3_expel_3 : List UInt8 := dkwX3_expel_3 ++ dktX3_expel_4
def dkwX3_expel_2 : List UInt8 := [28, 104, 6, 96, 163, 0, 34, 29, 42, 27, 21, 4, 182, 0, 86, 153, 0, 7, 4, 167, 0, 4, 3, 96]
abbrev dktX3_expel_2 : List UInt8 := dkwX3_expel_2 ++ dktX3_expel_3
def dkwX3_expel_1 : List UInt8 := [182, 0, 49, 154, 0, 9, 42, 5, 182, 0, 80, 172, 3, 62, 6, 28, 104, 4, 96, 54, 4, 21, 4, 6]
abbrev dktX3_expel_1 : List UInt8 := dkwX3_expel_1 ++ dktX3_expel_2
def dkwX3_expel_0 : List UInt8 := [27, 184, 0, 107, 153, 0, 10, 28, 184, 0, 76, 154, 0, 9, 42, 4, 182, 0, 80, 172, 42, 27, 3]
abbrev dktX3_expel_0 : List UInt8 := dkwX3_expel_0 ++ dktX3_expel_1
theorem dksX3_expel_0 : cX3_expel.data.toList.drop 0 = dktX3_expel_0 := by decide +kernel
theorem dksX3_expel_1 : cX3_expel.data.toList.drop 23 = dktX3_expel_1 := dk_seg dksX3_expel_0 23 rfl rfl
theorem dksX3_expel_2 : cX3_expel.data.toList.drop 47 = dktX3_expel_2 := dk_seg dksX3_expel_1 24 rfl rfl
theorem dksX3_expel_3 : cX3_expel.data.toList.drop 71 = dktX3_expel_3 := dk_seg dksX3_expel_2 24 rfl rfl
theorem dksX3_expel_4 : cX3_expel.data.toList.drop 95 = dktX3_expel_4 := dk_seg dksX3_expel_3 24 rfl rfl
theorem dX3_expel_0 : decode cX3_expel 0 = .ok (.iload_n 1, 1) := dk_27 (dk_at dksX3_expel_0 0 rfl rfl)
theorem dX3_expel_1 : decode cX3_expel 1 = .ok (.invokestatic 107, 3) := dk_184 0 107 (dk_at dksX3_expel_0 1 rfl rfl)
theorem dX3_expel_4 : decode cX3_expel 4 = .ok (.ifCond .eq 10, 3) := dk_153 0 10 (dk_at dksX3_expel_0 4 rfl rfl)
theorem dX3_expel_7 : decode cX3_expel 7 = .ok (.iload_n 2, 1) := dk_28 (dk_at dksX3_expel_0 7 rfl rfl)
theorem dX3_expel_8 : decode cX3_expel 8 = .ok (.invokestatic 76, 3) := dk_184 0 76 (dk_at dksX3_expel_0 8 rfl rfl)
theorem dX3_expel_11 : decode cX3_expel 11 = .ok (.ifCond .ne 9, 3) := dk_154 0 9 (dk_at dksX3_expel_0 11 rfl rfl)
theorem dX3_expel_14 : decode cX3_expel 14 = .ok (.aload_n 0, 1) := dk_42 (dk_at dksX3_expel_0 14 rfl rfl)
theorem dX3_expel_15 : decode cX3_expel 15 = .ok (.iconst 1, 1) := dk_4 (dk_at dksX3_expel_0 15 rfl rfl)
theorem dX3_expel_16 : decode cX3_expel 16 = .ok (.invokevirtual 80, 3) := dk_182 0 80 (dk_at dksX3_expel_0 16 rfl rfl)
theorem dX3_expel_19 : decode cX3_expel 19 = .ok (.ireturn, 1) := dk_172 (dk_at dksX3_expel_0 19 rfl rfl)
theorem dX3_expel_20 : decode cX3_expel 20 = .ok (.aload_n 0, 1) := dk_42 (dk_at dksX3_expel_0 20 rfl rfl)
theorem dX3_expel_21 : decode cX3_expel 21 = .ok (.iload_n 1, 1) := dk_27 (dk_at dksX3_expel_0 21 rfl rfl)
theorem dX3_expel_22 : decode cX3_expel 22 = .ok (.iconst 0, 1) := dk_3 (dk_at dksX3_expel_0 22 rfl rfl)
theorem dX3_expel_23 : decode cX3_expel 23 = .ok (.invokevirtual 49, 3) := dk_182 0 49 (dk_at dksX3_expel_1 0 rfl rfl)
theorem dX3_expel_26 : decode cX3_expel 26 = .ok (.ifCond .ne 9, 3) := dk_154 0 9 (dk_at dksX3_expel_1 3 rfl rfl)
theorem dX3_expel_29 : decode cX3_expel 29 = .ok (.aload_n 0, 1) := dk_42 (dk_at dksX3_expel_1 6 rfl rfl)
theorem dX3_expel_30 : decode cX3_expel 30 = .ok (.iconst 2, 1) := dk_5 (dk_at dksX3_expel_1 7 rfl rfl)
theorem dX3_expel_31 : decode cX3_expel 31 = .ok (.invokevirtual 80, 3) := dk_182 0 80 (dk_at dksX3_expel_1 8 rfl rfl)
theorem dX3_expel_34 : decode cX3_expel 34 = .ok (.ireturn, 1) := dk_172 (dk_at dksX3_expel_1 11 rfl rfl)
theorem dX3_expel_35 : decode cX3_expel 35 = .ok (.iconst 0, 1) := dk_3 (dk_at dksX3_expel_1 12 rfl rfl)
theorem dX3_expel_36 : decode cX3_expel 36 = .ok (.istore_n 3, 1) := dk_62 (dk_at dksX3_expel_1 13 rfl rfl)
theorem dX3_expel_37 : decode cX3_expel 37 = .ok (.iconst 3, 1) := dk_6 (dk_at dksX3_expel_1 14 rfl rfl)
theorem dX3_expel_38 : decode cX3_expel 38 = .ok (.iload_n 2, 1) := dk_28 (dk_at dksX3_expel_1 15 rfl rfl)
theorem dX3_expel_39 : decode cX3_expel 39 = .ok (.imul, 1) := dk_104 (dk_at dksX3_expel_1 16 rfl rfl)
theorem dX3_expel_40 : decode cX3_expel 40 = .ok (.iconst 1, 1) := dk_4 (dk_at dksX3_expel_1 17 rfl rfl)
theorem dX3_expel_41 : decode cX3_expel 41 = .ok (.iadd, 1) := dk_96 (dk_at dksX3_expel_1 18 rfl rfl)
theorem dX3_expel_42 : decode cX3_expel 42 = .ok (.istore 4, 2) := dk_54 4 (dk_at dksX3_expel_1 19 rfl rfl)
theorem dX3_expel_44 : decode cX3_expel 44 = .ok (.iload 4, 2) := dk_21 4 (dk_at dksX3_expel_1 21 rfl rfl)
theorem dX3_expel_46 : decode cX3_expel 46 = .ok (.iconst 3, 1) := dk_6 (dk_at dksX3_expel_1 23 rfl rfl)
theorem dX3_expel_47 : decode cX3_expel 47 = .ok (.iload_n 2, 1) := dk_28 (dk_at dksX3_expel_2 0 rfl rfl)
theorem dX3_expel_48 : decode cX3_expel 48 = .ok (.imul, 1) := dk_104 (dk_at dksX3_expel_2 1 rfl rfl)
theorem dX3_expel_49 : decode cX3_expel 49 = .ok (.iconst 3, 1) := dk_6 (dk_at dksX3_expel_2 2 rfl rfl)
theorem dX3_expel_50 : decode cX3_expel 50 = .ok (.iadd, 1) := dk_96 (dk_at dksX3_expel_2 3 rfl rfl)
theorem dX3_expel_51 : decode cX3_expel 51 = .ok (.if_icmp .gt 34, 3) := dk_163 0 34 (dk_at dksX3_expel_2 4 rfl rfl)
theorem dX3_expel_54 : decode cX3_expel 54 = .ok (.iload_n 3, 1) := dk_29 (dk_at dksX3_expel_2 7 rfl rfl)
theorem dX3_expel_55 : decode cX3_expel 55 = .ok (.aload_n 0, 1) := dk_42 (dk_at dksX3_expel_2 8 rfl rfl)
theorem dX3_expel_56 : decode cX3_expel 56 = .ok (.iload_n 1, 1) := dk_27 (dk_at dksX3_expel_2 9 rfl rfl)
theorem dX3_expel_57 : decode cX3_expel 57 = .ok (.iload 4, 2) := dk_21 4 (dk_at dksX3_expel_2 10 rfl rfl)
theorem dX3_expel_59 : decode cX3_expel 59 = .ok (.invokevirtual 86, 3) := dk_182 0 86 (dk_at dksX3_expel_2 12 rfl rfl)
theorem dX3_expel_62 : decode cX3_expel 62 = .ok (.ifCond .eq 7, 3) := dk_153 0 7 (dk_at dksX3_expel_2 15 rfl rfl)
theorem dX3_expel_65 : decode cX3_expel 65 = .ok (.iconst 1, 1) := dk_4 (dk_at dksX3_expel_2 18 rfl rfl)
theorem dX3_expel_66 : decode cX3_expel 66 = .ok (.goto 4, 3) := dk_167 0 4 (dk_at dksX3_expel_2 19 rfl rfl)
theorem dX3_expel_69 : decode cX3_expel 69 = .ok (.iconst 0, 1) := dk_3 (dk_at dksX3_expel_2 22 rfl rfl)
theorem dX3_expel_70 : decode cX3_expel 70 = .ok (.iadd, 1) := dk_96 (dk_at dksX3_expel_2 23 rfl rfl)
theorem dX3_expel_71 : decode cX3_expel 71 = .ok (.istore_n 3, 1) := dk_62 (dk_at dksX3_expel_3 0 rfl rfl)
theorem dX3_expel_72 : decode cX3_expel 72 = .ok (.aload_n 0, 1) := dk_42 (dk_at dksX3_expel_3 1 rfl rfl)
theorem dX3_expel_73 : decode cX3_expel 73 = .ok (.iload_n 1, 1) := dk_27 (dk_at dksX3_expel_3 2 rfl rfl)
theorem dX3_expel_74 : decode cX3_expel 74 = .ok (.iload 4, 2) := dk_21 4 (dk_at dksX3_expel_3 3 rfl rfl)
theorem dX3_expel_76 : decode cX3_expel 76 = .ok (.invokevirtual 93, 3) := dk_182 0 93 (dk_at dksX3_expel_3 5 rfl rfl)
theorem dX3_expel_79 : decode cX3_expel 79 = .ok (.iinc 4 1, 3) := dk_132 4 1 (dk_at dksX3_expel_3 8 rfl rfl)
theorem dX3_expel_82 : decode cX3_expel 82 = .ok (.goto (-38), 3) := dk_167 255 218 (dk_at dksX3_expel_3 11 rfl rfl)
theorem dX3_expel_85 : decode cX3_expel 85 = .ok (.aload_n 0, 1) := dk_42 (dk_at dksX3_expel_3 14 rfl rfl)
theorem dX3_expel_86 : decode cX3_expel 86 = .ok (.sipush 600, 3) := dk_17 2 88 (dk_at dksX3_expel_3 15 rfl rfl)
theorem dX3_expel_89 : decode cX3_expel 89 = .ok (.bipush 10, 2) := dk_16 10 (dk_at dksX3_expel_3 18 rfl rfl)
theorem dX3_expel_91 : decode cX3_expel 91 = .ok (.iload_n 1, 1) := dk_27 (dk_at dksX3_expel_3 20 rfl rfl)
theorem dX3_expel_92 : decode cX3_expel 92 = .ok (.imul, 1) := dk_104 (dk_at dksX3_expel_3 21 rfl rfl)
theorem dX3_expel_93 : decode cX3_expel 93 = .ok (.iadd, 1) := dk_96 (dk_at dksX3_expel_3 22 rfl rfl)
theorem dX3_expel_94 : decode cX3_expel 94 = .ok (.iload_n 2, 1) := dk_28 (dk_at dksX3_expel_3 23 rfl rfl)
theorem dX3_expel_95 : decode cX3_expel 95 = .ok (.iadd, 1) := dk_96 (dk_at dksX3_expel_4 0 rfl rfl)
theorem dX3_expel_96 : decode cX3_expel 96 = .ok (.invokevirtual 117, 3) := dk_182 0 117 (dk_at dksX3_expel_4 1 rfl rfl)
theorem dX3_expel_99 : decode cX3_expel 99 = .ok (.aload_n 0, 1) := dk_42 (dk_at dksX3_expel_4 4 rfl rfl)
theorem dX3_expel_100 : decode cX3_expel 100 = .ok (.iload_n 3, 1) := dk_29 (dk_at dksX3_expel_4 5 rfl rfl)
theorem dX3_expel_101 : decode cX3_expel 101 = .ok (.invokevirtual 69, 3) := dk_182 0 69 (dk_at dksX3_expel_4 6 rfl rfl)
theorem dX3_expel_104 : decode cX3_expel 104 = .ok (.ireturn, 1) := dk_172 (dk_at dksX3_expel_4 9 rfl rfl)
abbrev cX3_open : ByteArray := prog_27_method_52_code
def yX3_open : MethodName := ⟨RX3, "open", "(II)I"⟩
def dkwX3_open_1 : List UInt8 := [182, 0, 117, 42, 42, 27, 42, 27, 4, 182, 0, 49, 3, 182, 0, 171, 182, 0, 69, 172]
abbrev dktX3_open_1 : List UInt8 := dkwX3_open_1 ++ []
def dkwX3_open_0 : List UInt8 := [42, 27, 28, 182, 0, 168, 62, 29, 153, 0, 9, 42, 29, 182, 0, 80, 172, 42, 17, 2, 188, 27, 96]
abbrev dktX3_open_0 : List UInt8 := dkwX3_open_0 ++ dktX3_open_1
theorem dksX3_open_0 : cX3_open.data.toList.drop 0 = dktX3_open_0 := by decide +kernel
theorem dksX3_open_1 : cX3_open.data.toList.drop 23 = dktX3_open_1 := dk_seg dksX3_open_0 23 rfl rfl
theorem dX3_open_0 : decode cX3_open 0 = .ok (.aload_n 0, 1) := dk_42 (dk_at dksX3_open_0 0 rfl rfl)
theorem dX3_open_1 : decode cX3_open 1 = .ok (.iload_n 1, 1) := dk_27 (dk_at dksX3_open_0 1 rfl rfl)
theorem dX3_open_2 : decode cX3_open 2 = .ok (.iload_n 2, 1) := dk_28 (dk_at dksX3_open_0 2 rfl rfl)
theorem dX3_open_3 : decode cX3_open 3 = .ok (.invokevirtual 168, 3) := dk_182 0 168 (dk_at dksX3_open_0 3 rfl rfl)
theorem dX3_open_6 : decode cX3_open 6 = .ok (.istore_n 3, 1) := dk_62 (dk_at dksX3_open_0 6 rfl rfl)
theorem dX3_open_7 : decode cX3_open 7 = .ok (.iload_n 3, 1) := dk_29 (dk_at dksX3_open_0 7 rfl rfl)
theorem dX3_open_8 : decode cX3_open 8 = .ok (.ifCond .eq 9, 3) := dk_153 0 9 (dk_at dksX3_open_0 8 rfl rfl)
theorem dX3_open_11 : decode cX3_open 11 = .ok (.aload_n 0, 1) := dk_42 (dk_at dksX3_open_0 11 rfl rfl)
theorem dX3_open_12 : decode cX3_open 12 = .ok (.iload_n 3, 1) := dk_29 (dk_at dksX3_open_0 12 rfl rfl)
theorem dX3_open_13 : decode cX3_open 13 = .ok (.invokevirtual 80, 3) := dk_182 0 80 (dk_at dksX3_open_0 13 rfl rfl)
theorem dX3_open_16 : decode cX3_open 16 = .ok (.ireturn, 1) := dk_172 (dk_at dksX3_open_0 16 rfl rfl)
theorem dX3_open_17 : decode cX3_open 17 = .ok (.aload_n 0, 1) := dk_42 (dk_at dksX3_open_0 17 rfl rfl)
theorem dX3_open_18 : decode cX3_open 18 = .ok (.sipush 700, 3) := dk_17 2 188 (dk_at dksX3_open_0 18 rfl rfl)
theorem dX3_open_21 : decode cX3_open 21 = .ok (.iload_n 1, 1) := dk_27 (dk_at dksX3_open_0 21 rfl rfl)
theorem dX3_open_22 : decode cX3_open 22 = .ok (.iadd, 1) := dk_96 (dk_at dksX3_open_0 22 rfl rfl)
theorem dX3_open_23 : decode cX3_open 23 = .ok (.invokevirtual 117, 3) := dk_182 0 117 (dk_at dksX3_open_1 0 rfl rfl)
theorem dX3_open_26 : decode cX3_open 26 = .ok (.aload_n 0, 1) := dk_42 (dk_at dksX3_open_1 3 rfl rfl)
theorem dX3_open_27 : decode cX3_open 27 = .ok (.aload_n 0, 1) := dk_42 (dk_at dksX3_open_1 4 rfl rfl)
theorem dX3_open_28 : decode cX3_open 28 = .ok (.iload_n 1, 1) := dk_27 (dk_at dksX3_open_1 5 rfl rfl)
theorem dX3_open_29 : decode cX3_open 29 = .ok (.aload_n 0, 1) := dk_42 (dk_at dksX3_open_1 6 rfl rfl)
theorem dX3_open_30 : decode cX3_open 30 = .ok (.iload_n 1, 1) := dk_27 (dk_at dksX3_open_1 7 rfl rfl)
theorem dX3_open_31 : decode cX3_open 31 = .ok (.iconst 1, 1) := dk_4 (dk_at dksX3_open_1 8 rfl rfl)
theorem dX3_open_32 : decode cX3_open 32 = .ok (.invokevirtual 49, 3) := dk_182 0 49 (dk_at dksX3_open_1 9 rfl rfl)
theorem dX3_open_35 : decode cX3_open 35 = .ok (.iconst 0, 1) := dk_3 (dk_at dksX3_open_1 12 rfl rfl)
theorem dX3_open_36 : decode cX3_open 36 = .ok (.invokevirtual 171, 3) := dk_182 0 171 (dk_at dksX3_open_1 13 rfl rfl)
theorem dX3_open_39 : decode cX3_open 39 = .ok (.invokevirtual 69, 3) := dk_182 0 69 (dk_at dksX3_open_1 16 rfl rfl)
theorem dX3_open_42 : decode cX3_open 42 = .ok (.ireturn, 1) := dk_172 (dk_at dksX3_open_1 19 rfl rfl)
abbrev cX3_combine : ByteArray := prog_27_method_54_code
def yX3_combine : MethodName := ⟨RX3, "combine", "(II)I"⟩
def dkwX3_combine_2 : List UInt8 := [42, 27, 4, 182, 0, 49, 3, 182, 0, 171, 182, 0, 69, 172]
abbrev dktX3_combine_2 : List UInt8 := dkwX3_combine_2 ++ []
def dkwX3_combine_1 : List UInt8 := [42, 180, 0, 127, 42, 27, 4, 182, 0, 49, 162, 0, 11, 42, 7, 182, 0, 80, 167, 0, 19, 42, 42, 27]
abbrev dktX3_combine_1 : List UInt8 := dkwX3_combine_1 ++ dktX3_combine_2
def dkwX3_combine_0 : List UInt8 := [42, 27, 28, 182, 0, 177, 62, 29, 153, 0, 9, 42, 29, 182, 0, 80, 172, 42, 27, 28, 3, 182, 0, 146]
abbrev dktX3_combine_0 : List UInt8 := dkwX3_combine_0 ++ dktX3_combine_1
theorem dksX3_combine_0 : cX3_combine.data.toList.drop 0 = dktX3_combine_0 := by decide +kernel
theorem dksX3_combine_1 : cX3_combine.data.toList.drop 24 = dktX3_combine_1 := dk_seg dksX3_combine_0 24 rfl rfl
theorem dksX3_combine_2 : cX3_combine.data.toList.drop 48 = dktX3_combine_2 := dk_seg dksX3_combine_1 24 rfl rfl
theorem dX3_combine_0 : decode cX3_combine 0 = .ok (.aload_n 0, 1) := dk_42 (dk_at dksX3_combine_0 0 rfl rfl)
theorem dX3_combine_1 : decode cX3_combine 1 = .ok (.iload_n 1, 1) := dk_27 (dk_at dksX3_combine_0 1 rfl rfl)
theorem dX3_combine_2 : decode cX3_combine 2 = .ok (.iload_n 2, 1) := dk_28 (dk_at dksX3_combine_0 2 rfl rfl)
theorem dX3_combine_3 : decode cX3_combine 3 = .ok (.invokevirtual 177, 3) := dk_182 0 177 (dk_at dksX3_combine_0 3 rfl rfl)
theorem dX3_combine_6 : decode cX3_combine 6 = .ok (.istore_n 3, 1) := dk_62 (dk_at dksX3_combine_0 6 rfl rfl)
theorem dX3_combine_7 : decode cX3_combine 7 = .ok (.iload_n 3, 1) := dk_29 (dk_at dksX3_combine_0 7 rfl rfl)
theorem dX3_combine_8 : decode cX3_combine 8 = .ok (.ifCond .eq 9, 3) := dk_153 0 9 (dk_at dksX3_combine_0 8 rfl rfl)
theorem dX3_combine_11 : decode cX3_combine 11 = .ok (.aload_n 0, 1) := dk_42 (dk_at dksX3_combine_0 11 rfl rfl)
theorem dX3_combine_12 : decode cX3_combine 12 = .ok (.iload_n 3, 1) := dk_29 (dk_at dksX3_combine_0 12 rfl rfl)
theorem dX3_combine_13 : decode cX3_combine 13 = .ok (.invokevirtual 80, 3) := dk_182 0 80 (dk_at dksX3_combine_0 13 rfl rfl)
theorem dX3_combine_16 : decode cX3_combine 16 = .ok (.ireturn, 1) := dk_172 (dk_at dksX3_combine_0 16 rfl rfl)
theorem dX3_combine_17 : decode cX3_combine 17 = .ok (.aload_n 0, 1) := dk_42 (dk_at dksX3_combine_0 17 rfl rfl)
theorem dX3_combine_18 : decode cX3_combine 18 = .ok (.iload_n 1, 1) := dk_27 (dk_at dksX3_combine_0 18 rfl rfl)
theorem dX3_combine_19 : decode cX3_combine 19 = .ok (.iload_n 2, 1) := dk_28 (dk_at dksX3_combine_0 19 rfl rfl)
theorem dX3_combine_20 : decode cX3_combine 20 = .ok (.iconst 0, 1) := dk_3 (dk_at dksX3_combine_0 20 rfl rfl)
theorem dX3_combine_21 : decode cX3_combine 21 = .ok (.invokevirtual 146, 3) := dk_182 0 146 (dk_at dksX3_combine_0 21 rfl rfl)
theorem dX3_combine_24 : decode cX3_combine 24 = .ok (.aload_n 0, 1) := dk_42 (dk_at dksX3_combine_1 0 rfl rfl)
theorem dX3_combine_25 : decode cX3_combine 25 = .ok (.getfield 127, 3) := dk_180 0 127 (dk_at dksX3_combine_1 1 rfl rfl)
theorem dX3_combine_28 : decode cX3_combine 28 = .ok (.aload_n 0, 1) := dk_42 (dk_at dksX3_combine_1 4 rfl rfl)
theorem dX3_combine_29 : decode cX3_combine 29 = .ok (.iload_n 1, 1) := dk_27 (dk_at dksX3_combine_1 5 rfl rfl)
theorem dX3_combine_30 : decode cX3_combine 30 = .ok (.iconst 1, 1) := dk_4 (dk_at dksX3_combine_1 6 rfl rfl)
theorem dX3_combine_31 : decode cX3_combine 31 = .ok (.invokevirtual 49, 3) := dk_182 0 49 (dk_at dksX3_combine_1 7 rfl rfl)
theorem dX3_combine_34 : decode cX3_combine 34 = .ok (.if_icmp .ge 11, 3) := dk_162 0 11 (dk_at dksX3_combine_1 10 rfl rfl)
theorem dX3_combine_37 : decode cX3_combine 37 = .ok (.aload_n 0, 1) := dk_42 (dk_at dksX3_combine_1 13 rfl rfl)
theorem dX3_combine_38 : decode cX3_combine 38 = .ok (.iconst 4, 1) := dk_7 (dk_at dksX3_combine_1 14 rfl rfl)
theorem dX3_combine_39 : decode cX3_combine 39 = .ok (.invokevirtual 80, 3) := dk_182 0 80 (dk_at dksX3_combine_1 15 rfl rfl)
theorem dX3_combine_42 : decode cX3_combine 42 = .ok (.goto 19, 3) := dk_167 0 19 (dk_at dksX3_combine_1 18 rfl rfl)
theorem dX3_combine_45 : decode cX3_combine 45 = .ok (.aload_n 0, 1) := dk_42 (dk_at dksX3_combine_1 21 rfl rfl)
theorem dX3_combine_46 : decode cX3_combine 46 = .ok (.aload_n 0, 1) := dk_42 (dk_at dksX3_combine_1 22 rfl rfl)
theorem dX3_combine_47 : decode cX3_combine 47 = .ok (.iload_n 1, 1) := dk_27 (dk_at dksX3_combine_1 23 rfl rfl)
theorem dX3_combine_48 : decode cX3_combine 48 = .ok (.aload_n 0, 1) := dk_42 (dk_at dksX3_combine_2 0 rfl rfl)
theorem dX3_combine_49 : decode cX3_combine 49 = .ok (.iload_n 1, 1) := dk_27 (dk_at dksX3_combine_2 1 rfl rfl)
theorem dX3_combine_50 : decode cX3_combine 50 = .ok (.iconst 1, 1) := dk_4 (dk_at dksX3_combine_2 2 rfl rfl)
theorem dX3_combine_51 : decode cX3_combine 51 = .ok (.invokevirtual 49, 3) := dk_182 0 49 (dk_at dksX3_combine_2 3 rfl rfl)
theorem dX3_combine_54 : decode cX3_combine 54 = .ok (.iconst 0, 1) := dk_3 (dk_at dksX3_combine_2 6 rfl rfl)
theorem dX3_combine_55 : decode cX3_combine 55 = .ok (.invokevirtual 171, 3) := dk_182 0 171 (dk_at dksX3_combine_2 7 rfl rfl)
theorem dX3_combine_58 : decode cX3_combine 58 = .ok (.invokevirtual 69, 3) := dk_182 0 69 (dk_at dksX3_combine_2 10 rfl rfl)
theorem dX3_combine_61 : decode cX3_combine 61 = .ok (.ireturn, 1) := dk_172 (dk_at dksX3_combine_2 13 rfl rfl)
abbrev cX3_lacksSet : ByteArray := prog_27_method_53_code
def yX3_lacksSet : MethodName := ⟨RX3, "lacksSet", "(II)I"⟩
def dkwX3_lacksSet_1 : List UInt8 := [3, 182, 0, 49, 154, 0, 7, 6, 167, 0, 4, 3, 172]
abbrev dktX3_lacksSet_1 : List UInt8 := dkwX3_lacksSet_1 ++ []
def dkwX3_lacksSet_0 : List UInt8 := [27, 184, 0, 107, 154, 0, 7, 4, 167, 0, 28, 28, 184, 0, 159, 154, 0, 7, 5, 167, 0, 17, 42, 27]
abbrev dktX3_lacksSet_0 : List UInt8 := dkwX3_lacksSet_0 ++ dktX3_lacksSet_1
theorem dksX3_lacksSet_0 : cX3_lacksSet.data.toList.drop 0 = dktX3_lacksSet_0 := by decide +kernel
theorem dksX3_lacksSet_1 : cX3_lacksSet.data.toList.drop 24 = dktX3_lacksSet_1 := dk_seg dksX3_lacksSet_0 24 rfl rfl
theorem dX3_lacksSet_0 : decode cX3_lacksSet 0 = .ok (.iload_n 1, 1) := dk_27 (dk_at dksX3_lacksSet_0 0 rfl rfl)
theorem dX3_lacksSet_1 : decode cX3_lacksSet 1 = .ok (.invokestatic 107, 3) := dk_184 0 107 (dk_at dksX3_lacksSet_0 1 rfl rfl)
theorem dX3_lacksSet_4 : decode cX3_lacksSet 4 = .ok (.ifCond .ne 7, 3) := dk_154 0 7 (dk_at dksX3_lacksSet_0 4 rfl rfl)
theorem dX3_lacksSet_7 : decode cX3_lacksSet 7 = .ok (.iconst 1, 1) := dk_4 (dk_at dksX3_lacksSet_0 7 rfl rfl)
theorem dX3_lacksSet_8 : decode cX3_lacksSet 8 = .ok (.goto 28, 3) := dk_167 0 28 (dk_at dksX3_lacksSet_0 8 rfl rfl)
theorem dX3_lacksSet_11 : decode cX3_lacksSet 11 = .ok (.iload_n 2, 1) := dk_28 (dk_at dksX3_lacksSet_0 11 rfl rfl)
theorem dX3_lacksSet_12 : decode cX3_lacksSet 12 = .ok (.invokestatic 159, 3) := dk_184 0 159 (dk_at dksX3_lacksSet_0 12 rfl rfl)
theorem dX3_lacksSet_15 : decode cX3_lacksSet 15 = .ok (.ifCond .ne 7, 3) := dk_154 0 7 (dk_at dksX3_lacksSet_0 15 rfl rfl)
theorem dX3_lacksSet_18 : decode cX3_lacksSet 18 = .ok (.iconst 2, 1) := dk_5 (dk_at dksX3_lacksSet_0 18 rfl rfl)
theorem dX3_lacksSet_19 : decode cX3_lacksSet 19 = .ok (.goto 17, 3) := dk_167 0 17 (dk_at dksX3_lacksSet_0 19 rfl rfl)
theorem dX3_lacksSet_22 : decode cX3_lacksSet 22 = .ok (.aload_n 0, 1) := dk_42 (dk_at dksX3_lacksSet_0 22 rfl rfl)
theorem dX3_lacksSet_23 : decode cX3_lacksSet 23 = .ok (.iload_n 1, 1) := dk_27 (dk_at dksX3_lacksSet_0 23 rfl rfl)
theorem dX3_lacksSet_24 : decode cX3_lacksSet 24 = .ok (.iconst 0, 1) := dk_3 (dk_at dksX3_lacksSet_1 0 rfl rfl)
theorem dX3_lacksSet_25 : decode cX3_lacksSet 25 = .ok (.invokevirtual 49, 3) := dk_182 0 49 (dk_at dksX3_lacksSet_1 1 rfl rfl)
theorem dX3_lacksSet_28 : decode cX3_lacksSet 28 = .ok (.ifCond .ne 7, 3) := dk_154 0 7 (dk_at dksX3_lacksSet_1 4 rfl rfl)
theorem dX3_lacksSet_31 : decode cX3_lacksSet 31 = .ok (.iconst 3, 1) := dk_6 (dk_at dksX3_lacksSet_1 7 rfl rfl)
theorem dX3_lacksSet_32 : decode cX3_lacksSet 32 = .ok (.goto 4, 3) := dk_167 0 4 (dk_at dksX3_lacksSet_1 8 rfl rfl)
theorem dX3_lacksSet_35 : decode cX3_lacksSet 35 = .ok (.iconst 0, 1) := dk_3 (dk_at dksX3_lacksSet_1 11 rfl rfl)
theorem dX3_lacksSet_36 : decode cX3_lacksSet 36 = .ok (.ireturn, 1) := dk_172 (dk_at dksX3_lacksSet_1 12 rfl rfl)
abbrev cX3_agree : ByteArray := prog_27_method_55_code
def yX3_agree : MethodName := ⟨RX3, "agree", "(II)Z"⟩
def dkwX3_agree_4 : List UInt8 := [167, 255, 200, 29, 172]
abbrev dktX3_agree_4 : List UInt8 := dkwX3_agree_4 ++ []
def dkwX3_agree_3 : List UInt8 := [180, 0, 19, 21, 4, 46, 4, 182, 0, 57, 160, 0, 7, 4, 167, 0, 4, 3, 62, 132, 4, 1]
abbrev dktX3_agree_3 : List UInt8 := dkwX3_agree_3 ++ dktX3_agree_4
def dkwX3_agree_2 : List UInt8 := [153, 0, 41, 42, 27, 42, 27, 4, 182, 0, 49, 42, 180, 0, 19, 21, 4, 46, 182, 0, 171, 42, 27, 42]
abbrev dktX3_agree_2 : List UInt8 := dkwX3_agree_2 ++ dktX3_agree_3
def dkwX3_agree_1 : List UInt8 := [182, 0, 146, 4, 62, 42, 27, 4, 182, 0, 49, 54, 4, 21, 4, 42, 180, 0, 127, 162, 0, 53, 29]
abbrev dktX3_agree_1 : List UInt8 := dkwX3_agree_1 ++ dktX3_agree_2
def dkwX3_agree_0 : List UInt8 := [42, 42, 27, 28, 182, 0, 177, 181, 0, 42, 42, 180, 0, 42, 153, 0, 5, 3, 172, 42, 27, 28, 3]
abbrev dktX3_agree_0 : List UInt8 := dkwX3_agree_0 ++ dktX3_agree_1
theorem dksX3_agree_0 : cX3_agree.data.toList.drop 0 = dktX3_agree_0 := by decide +kernel
theorem dksX3_agree_1 : cX3_agree.data.toList.drop 23 = dktX3_agree_1 := dk_seg dksX3_agree_0 23 rfl rfl
theorem dksX3_agree_2 : cX3_agree.data.toList.drop 46 = dktX3_agree_2 := dk_seg dksX3_agree_1 23 rfl rfl
theorem dksX3_agree_3 : cX3_agree.data.toList.drop 70 = dktX3_agree_3 := dk_seg dksX3_agree_2 24 rfl rfl
theorem dksX3_agree_4 : cX3_agree.data.toList.drop 92 = dktX3_agree_4 := dk_seg dksX3_agree_3 22 rfl rfl
theorem dX3_agree_0 : decode cX3_agree 0 = .ok (.aload_n 0, 1) := dk_42 (dk_at dksX3_agree_0 0 rfl rfl)
theorem dX3_agree_1 : decode cX3_agree 1 = .ok (.aload_n 0, 1) := dk_42 (dk_at dksX3_agree_0 1 rfl rfl)
theorem dX3_agree_2 : decode cX3_agree 2 = .ok (.iload_n 1, 1) := dk_27 (dk_at dksX3_agree_0 2 rfl rfl)
theorem dX3_agree_3 : decode cX3_agree 3 = .ok (.iload_n 2, 1) := dk_28 (dk_at dksX3_agree_0 3 rfl rfl)
theorem dX3_agree_4 : decode cX3_agree 4 = .ok (.invokevirtual 177, 3) := dk_182 0 177 (dk_at dksX3_agree_0 4 rfl rfl)
theorem dX3_agree_7 : decode cX3_agree 7 = .ok (.putfield 42, 3) := dk_181 0 42 (dk_at dksX3_agree_0 7 rfl rfl)
theorem dX3_agree_10 : decode cX3_agree 10 = .ok (.aload_n 0, 1) := dk_42 (dk_at dksX3_agree_0 10 rfl rfl)
theorem dX3_agree_11 : decode cX3_agree 11 = .ok (.getfield 42, 3) := dk_180 0 42 (dk_at dksX3_agree_0 11 rfl rfl)
theorem dX3_agree_14 : decode cX3_agree 14 = .ok (.ifCond .eq 5, 3) := dk_153 0 5 (dk_at dksX3_agree_0 14 rfl rfl)
theorem dX3_agree_17 : decode cX3_agree 17 = .ok (.iconst 0, 1) := dk_3 (dk_at dksX3_agree_0 17 rfl rfl)
theorem dX3_agree_18 : decode cX3_agree 18 = .ok (.ireturn, 1) := dk_172 (dk_at dksX3_agree_0 18 rfl rfl)
theorem dX3_agree_19 : decode cX3_agree 19 = .ok (.aload_n 0, 1) := dk_42 (dk_at dksX3_agree_0 19 rfl rfl)
theorem dX3_agree_20 : decode cX3_agree 20 = .ok (.iload_n 1, 1) := dk_27 (dk_at dksX3_agree_0 20 rfl rfl)
theorem dX3_agree_21 : decode cX3_agree 21 = .ok (.iload_n 2, 1) := dk_28 (dk_at dksX3_agree_0 21 rfl rfl)
theorem dX3_agree_22 : decode cX3_agree 22 = .ok (.iconst 0, 1) := dk_3 (dk_at dksX3_agree_0 22 rfl rfl)
theorem dX3_agree_23 : decode cX3_agree 23 = .ok (.invokevirtual 146, 3) := dk_182 0 146 (dk_at dksX3_agree_1 0 rfl rfl)
theorem dX3_agree_26 : decode cX3_agree 26 = .ok (.iconst 1, 1) := dk_4 (dk_at dksX3_agree_1 3 rfl rfl)
theorem dX3_agree_27 : decode cX3_agree 27 = .ok (.istore_n 3, 1) := dk_62 (dk_at dksX3_agree_1 4 rfl rfl)
theorem dX3_agree_28 : decode cX3_agree 28 = .ok (.aload_n 0, 1) := dk_42 (dk_at dksX3_agree_1 5 rfl rfl)
theorem dX3_agree_29 : decode cX3_agree 29 = .ok (.iload_n 1, 1) := dk_27 (dk_at dksX3_agree_1 6 rfl rfl)
theorem dX3_agree_30 : decode cX3_agree 30 = .ok (.iconst 1, 1) := dk_4 (dk_at dksX3_agree_1 7 rfl rfl)
theorem dX3_agree_31 : decode cX3_agree 31 = .ok (.invokevirtual 49, 3) := dk_182 0 49 (dk_at dksX3_agree_1 8 rfl rfl)
theorem dX3_agree_34 : decode cX3_agree 34 = .ok (.istore 4, 2) := dk_54 4 (dk_at dksX3_agree_1 11 rfl rfl)
theorem dX3_agree_36 : decode cX3_agree 36 = .ok (.iload 4, 2) := dk_21 4 (dk_at dksX3_agree_1 13 rfl rfl)
theorem dX3_agree_38 : decode cX3_agree 38 = .ok (.aload_n 0, 1) := dk_42 (dk_at dksX3_agree_1 15 rfl rfl)
theorem dX3_agree_39 : decode cX3_agree 39 = .ok (.getfield 127, 3) := dk_180 0 127 (dk_at dksX3_agree_1 16 rfl rfl)
theorem dX3_agree_42 : decode cX3_agree 42 = .ok (.if_icmp .ge 53, 3) := dk_162 0 53 (dk_at dksX3_agree_1 19 rfl rfl)
theorem dX3_agree_45 : decode cX3_agree 45 = .ok (.iload_n 3, 1) := dk_29 (dk_at dksX3_agree_1 22 rfl rfl)
theorem dX3_agree_46 : decode cX3_agree 46 = .ok (.ifCond .eq 41, 3) := dk_153 0 41 (dk_at dksX3_agree_2 0 rfl rfl)
theorem dX3_agree_49 : decode cX3_agree 49 = .ok (.aload_n 0, 1) := dk_42 (dk_at dksX3_agree_2 3 rfl rfl)
theorem dX3_agree_50 : decode cX3_agree 50 = .ok (.iload_n 1, 1) := dk_27 (dk_at dksX3_agree_2 4 rfl rfl)
theorem dX3_agree_51 : decode cX3_agree 51 = .ok (.aload_n 0, 1) := dk_42 (dk_at dksX3_agree_2 5 rfl rfl)
theorem dX3_agree_52 : decode cX3_agree 52 = .ok (.iload_n 1, 1) := dk_27 (dk_at dksX3_agree_2 6 rfl rfl)
theorem dX3_agree_53 : decode cX3_agree 53 = .ok (.iconst 1, 1) := dk_4 (dk_at dksX3_agree_2 7 rfl rfl)
theorem dX3_agree_54 : decode cX3_agree 54 = .ok (.invokevirtual 49, 3) := dk_182 0 49 (dk_at dksX3_agree_2 8 rfl rfl)
theorem dX3_agree_57 : decode cX3_agree 57 = .ok (.aload_n 0, 1) := dk_42 (dk_at dksX3_agree_2 11 rfl rfl)
theorem dX3_agree_58 : decode cX3_agree 58 = .ok (.getfield 19, 3) := dk_180 0 19 (dk_at dksX3_agree_2 12 rfl rfl)
theorem dX3_agree_61 : decode cX3_agree 61 = .ok (.iload 4, 2) := dk_21 4 (dk_at dksX3_agree_2 15 rfl rfl)
theorem dX3_agree_63 : decode cX3_agree 63 = .ok (.iaload, 1) := dk_46 (dk_at dksX3_agree_2 17 rfl rfl)
theorem dX3_agree_64 : decode cX3_agree 64 = .ok (.invokevirtual 171, 3) := dk_182 0 171 (dk_at dksX3_agree_2 18 rfl rfl)
theorem dX3_agree_67 : decode cX3_agree 67 = .ok (.aload_n 0, 1) := dk_42 (dk_at dksX3_agree_2 21 rfl rfl)
theorem dX3_agree_68 : decode cX3_agree 68 = .ok (.iload_n 1, 1) := dk_27 (dk_at dksX3_agree_2 22 rfl rfl)
theorem dX3_agree_69 : decode cX3_agree 69 = .ok (.aload_n 0, 1) := dk_42 (dk_at dksX3_agree_2 23 rfl rfl)
theorem dX3_agree_70 : decode cX3_agree 70 = .ok (.getfield 19, 3) := dk_180 0 19 (dk_at dksX3_agree_3 0 rfl rfl)
theorem dX3_agree_73 : decode cX3_agree 73 = .ok (.iload 4, 2) := dk_21 4 (dk_at dksX3_agree_3 3 rfl rfl)
theorem dX3_agree_75 : decode cX3_agree 75 = .ok (.iaload, 1) := dk_46 (dk_at dksX3_agree_3 5 rfl rfl)
theorem dX3_agree_76 : decode cX3_agree 76 = .ok (.iconst 1, 1) := dk_4 (dk_at dksX3_agree_3 6 rfl rfl)
theorem dX3_agree_77 : decode cX3_agree 77 = .ok (.invokevirtual 57, 3) := dk_182 0 57 (dk_at dksX3_agree_3 7 rfl rfl)
theorem dX3_agree_80 : decode cX3_agree 80 = .ok (.if_icmp .ne 7, 3) := dk_160 0 7 (dk_at dksX3_agree_3 10 rfl rfl)
theorem dX3_agree_83 : decode cX3_agree 83 = .ok (.iconst 1, 1) := dk_4 (dk_at dksX3_agree_3 13 rfl rfl)
theorem dX3_agree_84 : decode cX3_agree 84 = .ok (.goto 4, 3) := dk_167 0 4 (dk_at dksX3_agree_3 14 rfl rfl)
theorem dX3_agree_87 : decode cX3_agree 87 = .ok (.iconst 0, 1) := dk_3 (dk_at dksX3_agree_3 17 rfl rfl)
theorem dX3_agree_88 : decode cX3_agree 88 = .ok (.istore_n 3, 1) := dk_62 (dk_at dksX3_agree_3 18 rfl rfl)
theorem dX3_agree_89 : decode cX3_agree 89 = .ok (.iinc 4 1, 3) := dk_132 4 1 (dk_at dksX3_agree_3 19 rfl rfl)
theorem dX3_agree_92 : decode cX3_agree 92 = .ok (.goto (-56), 3) := dk_167 255 200 (dk_at dksX3_agree_4 0 rfl rfl)
theorem dX3_agree_95 : decode cX3_agree 95 = .ok (.iload_n 3, 1) := dk_29 (dk_at dksX3_agree_4 3 rfl rfl)
theorem dX3_agree_96 : decode cX3_agree 96 = .ok (.ireturn, 1) := dk_172 (dk_at dksX3_agree_4 4 rfl rfl)
abbrev cX3_secret : ByteArray := prog_27_method_57_code
def yX3_secret : MethodName := ⟨RX3, "secret", "(II)I"⟩
def dkwX3_secret_5 : List UInt8 := [182, 0, 180, 182, 0, 69, 172]
abbrev dktX3_secret_5 : List UInt8 := dkwX3_secret_5 ++ []
def dkwX3_secret_4 : List UInt8 := [27, 182, 0, 140, 153, 0, 7, 4, 167, 0, 4, 3, 182, 0, 69, 172, 42, 42, 27, 28, 6, 100]
abbrev dktX3_secret_4 : List UInt8 := dkwX3_secret_4 ++ dktX3_secret_5
def dkwX3_secret_3 : List UInt8 := [42, 42, 27, 4, 182, 0, 49, 182, 0, 69, 172, 42, 42, 27, 5, 182, 0, 49, 182, 0, 69, 172, 42, 42]
abbrev dktX3_secret_3 : List UInt8 := dkwX3_secret_3 ++ dktX3_secret_4
def dkwX3_secret_2 : List UInt8 := [171, 0, 0, 0, 0, 0, 75, 0, 0, 0, 3, 0, 0, 0, 0, 0, 0, 0, 35, 0, 0, 0, 1, 0, 0, 0, 46, 0, 0, 0, 6, 0, 0, 0, 57]
abbrev dktX3_secret_2 : List UInt8 := dkwX3_secret_2 ++ dktX3_secret_3
def dkwX3_secret_1 : List UInt8 := [5, 182, 0, 80, 172, 42, 27, 3, 182, 0, 49, 154, 0, 9, 42, 6, 182, 0, 80, 172, 28]
abbrev dktX3_secret_1 : List UInt8 := dkwX3_secret_1 ++ dktX3_secret_2
def dkwX3_secret_0 : List UInt8 := [27, 184, 0, 107, 154, 0, 9, 42, 4, 182, 0, 80, 172, 28, 3, 16, 6, 184, 0, 45, 154, 0, 9, 42]
abbrev dktX3_secret_0 : List UInt8 := dkwX3_secret_0 ++ dktX3_secret_1
theorem dksX3_secret_0 : cX3_secret.data.toList.drop 0 = dktX3_secret_0 := by decide +kernel
theorem dksX3_secret_1 : cX3_secret.data.toList.drop 24 = dktX3_secret_1 := dk_seg dksX3_secret_0 24 rfl rfl
theorem dksX3_secret_2 : cX3_secret.data.toList.drop 45 = dktX3_secret_2 := dk_seg dksX3_secret_1 21 rfl rfl
theorem dksX3_secret_3 : cX3_secret.data.toList.drop 80 = dktX3_secret_3 := dk_seg dksX3_secret_2 35 rfl rfl
theorem dksX3_secret_4 : cX3_secret.data.toList.drop 104 = dktX3_secret_4 := dk_seg dksX3_secret_3 24 rfl rfl
theorem dksX3_secret_5 : cX3_secret.data.toList.drop 126 = dktX3_secret_5 := dk_seg dksX3_secret_4 22 rfl rfl
theorem dX3_secret_0 : decode cX3_secret 0 = .ok (.iload_n 1, 1) := dk_27 (dk_at dksX3_secret_0 0 rfl rfl)
theorem dX3_secret_1 : decode cX3_secret 1 = .ok (.invokestatic 107, 3) := dk_184 0 107 (dk_at dksX3_secret_0 1 rfl rfl)
theorem dX3_secret_4 : decode cX3_secret 4 = .ok (.ifCond .ne 9, 3) := dk_154 0 9 (dk_at dksX3_secret_0 4 rfl rfl)
theorem dX3_secret_7 : decode cX3_secret 7 = .ok (.aload_n 0, 1) := dk_42 (dk_at dksX3_secret_0 7 rfl rfl)
theorem dX3_secret_8 : decode cX3_secret 8 = .ok (.iconst 1, 1) := dk_4 (dk_at dksX3_secret_0 8 rfl rfl)
theorem dX3_secret_9 : decode cX3_secret 9 = .ok (.invokevirtual 80, 3) := dk_182 0 80 (dk_at dksX3_secret_0 9 rfl rfl)
theorem dX3_secret_12 : decode cX3_secret 12 = .ok (.ireturn, 1) := dk_172 (dk_at dksX3_secret_0 12 rfl rfl)
theorem dX3_secret_13 : decode cX3_secret 13 = .ok (.iload_n 2, 1) := dk_28 (dk_at dksX3_secret_0 13 rfl rfl)
theorem dX3_secret_14 : decode cX3_secret 14 = .ok (.iconst 0, 1) := dk_3 (dk_at dksX3_secret_0 14 rfl rfl)
theorem dX3_secret_15 : decode cX3_secret 15 = .ok (.bipush 6, 2) := dk_16 6 (dk_at dksX3_secret_0 15 rfl rfl)
theorem dX3_secret_17 : decode cX3_secret 17 = .ok (.invokestatic 45, 3) := dk_184 0 45 (dk_at dksX3_secret_0 17 rfl rfl)
theorem dX3_secret_20 : decode cX3_secret 20 = .ok (.ifCond .ne 9, 3) := dk_154 0 9 (dk_at dksX3_secret_0 20 rfl rfl)
theorem dX3_secret_23 : decode cX3_secret 23 = .ok (.aload_n 0, 1) := dk_42 (dk_at dksX3_secret_0 23 rfl rfl)
theorem dX3_secret_24 : decode cX3_secret 24 = .ok (.iconst 2, 1) := dk_5 (dk_at dksX3_secret_1 0 rfl rfl)
theorem dX3_secret_25 : decode cX3_secret 25 = .ok (.invokevirtual 80, 3) := dk_182 0 80 (dk_at dksX3_secret_1 1 rfl rfl)
theorem dX3_secret_28 : decode cX3_secret 28 = .ok (.ireturn, 1) := dk_172 (dk_at dksX3_secret_1 4 rfl rfl)
theorem dX3_secret_29 : decode cX3_secret 29 = .ok (.aload_n 0, 1) := dk_42 (dk_at dksX3_secret_1 5 rfl rfl)
theorem dX3_secret_30 : decode cX3_secret 30 = .ok (.iload_n 1, 1) := dk_27 (dk_at dksX3_secret_1 6 rfl rfl)
theorem dX3_secret_31 : decode cX3_secret 31 = .ok (.iconst 0, 1) := dk_3 (dk_at dksX3_secret_1 7 rfl rfl)
theorem dX3_secret_32 : decode cX3_secret 32 = .ok (.invokevirtual 49, 3) := dk_182 0 49 (dk_at dksX3_secret_1 8 rfl rfl)
theorem dX3_secret_35 : decode cX3_secret 35 = .ok (.ifCond .ne 9, 3) := dk_154 0 9 (dk_at dksX3_secret_1 11 rfl rfl)
theorem dX3_secret_38 : decode cX3_secret 38 = .ok (.aload_n 0, 1) := dk_42 (dk_at dksX3_secret_1 14 rfl rfl)
theorem dX3_secret_39 : decode cX3_secret 39 = .ok (.iconst 3, 1) := dk_6 (dk_at dksX3_secret_1 15 rfl rfl)
theorem dX3_secret_40 : decode cX3_secret 40 = .ok (.invokevirtual 80, 3) := dk_182 0 80 (dk_at dksX3_secret_1 16 rfl rfl)
theorem dX3_secret_43 : decode cX3_secret 43 = .ok (.ireturn, 1) := dk_172 (dk_at dksX3_secret_1 19 rfl rfl)
theorem dX3_secret_44 : decode cX3_secret 44 = .ok (.iload_n 2, 1) := dk_28 (dk_at dksX3_secret_1 20 rfl rfl)
theorem dX3_secret_45 : decode cX3_secret 45 = .ok (.lookupswitch 75 #[(0, 35), (1, 46), (6, 57)], 35) := by decide +kernel
theorem dX3_secret_80 : decode cX3_secret 80 = .ok (.aload_n 0, 1) := dk_42 (dk_at dksX3_secret_3 0 rfl rfl)
theorem dX3_secret_81 : decode cX3_secret 81 = .ok (.aload_n 0, 1) := dk_42 (dk_at dksX3_secret_3 1 rfl rfl)
theorem dX3_secret_82 : decode cX3_secret 82 = .ok (.iload_n 1, 1) := dk_27 (dk_at dksX3_secret_3 2 rfl rfl)
theorem dX3_secret_83 : decode cX3_secret 83 = .ok (.iconst 1, 1) := dk_4 (dk_at dksX3_secret_3 3 rfl rfl)
theorem dX3_secret_84 : decode cX3_secret 84 = .ok (.invokevirtual 49, 3) := dk_182 0 49 (dk_at dksX3_secret_3 4 rfl rfl)
theorem dX3_secret_87 : decode cX3_secret 87 = .ok (.invokevirtual 69, 3) := dk_182 0 69 (dk_at dksX3_secret_3 7 rfl rfl)
theorem dX3_secret_90 : decode cX3_secret 90 = .ok (.ireturn, 1) := dk_172 (dk_at dksX3_secret_3 10 rfl rfl)
theorem dX3_secret_91 : decode cX3_secret 91 = .ok (.aload_n 0, 1) := dk_42 (dk_at dksX3_secret_3 11 rfl rfl)
theorem dX3_secret_92 : decode cX3_secret 92 = .ok (.aload_n 0, 1) := dk_42 (dk_at dksX3_secret_3 12 rfl rfl)
theorem dX3_secret_93 : decode cX3_secret 93 = .ok (.iload_n 1, 1) := dk_27 (dk_at dksX3_secret_3 13 rfl rfl)
theorem dX3_secret_94 : decode cX3_secret 94 = .ok (.iconst 2, 1) := dk_5 (dk_at dksX3_secret_3 14 rfl rfl)
theorem dX3_secret_95 : decode cX3_secret 95 = .ok (.invokevirtual 49, 3) := dk_182 0 49 (dk_at dksX3_secret_3 15 rfl rfl)
theorem dX3_secret_98 : decode cX3_secret 98 = .ok (.invokevirtual 69, 3) := dk_182 0 69 (dk_at dksX3_secret_3 18 rfl rfl)
theorem dX3_secret_101 : decode cX3_secret 101 = .ok (.ireturn, 1) := dk_172 (dk_at dksX3_secret_3 21 rfl rfl)
theorem dX3_secret_102 : decode cX3_secret 102 = .ok (.aload_n 0, 1) := dk_42 (dk_at dksX3_secret_3 22 rfl rfl)
theorem dX3_secret_103 : decode cX3_secret 103 = .ok (.aload_n 0, 1) := dk_42 (dk_at dksX3_secret_3 23 rfl rfl)
theorem dX3_secret_104 : decode cX3_secret 104 = .ok (.iload_n 1, 1) := dk_27 (dk_at dksX3_secret_4 0 rfl rfl)
theorem dX3_secret_105 : decode cX3_secret 105 = .ok (.invokevirtual 140, 3) := dk_182 0 140 (dk_at dksX3_secret_4 1 rfl rfl)
theorem dX3_secret_108 : decode cX3_secret 108 = .ok (.ifCond .eq 7, 3) := dk_153 0 7 (dk_at dksX3_secret_4 4 rfl rfl)
theorem dX3_secret_111 : decode cX3_secret 111 = .ok (.iconst 1, 1) := dk_4 (dk_at dksX3_secret_4 7 rfl rfl)
theorem dX3_secret_112 : decode cX3_secret 112 = .ok (.goto 4, 3) := dk_167 0 4 (dk_at dksX3_secret_4 8 rfl rfl)
theorem dX3_secret_115 : decode cX3_secret 115 = .ok (.iconst 0, 1) := dk_3 (dk_at dksX3_secret_4 11 rfl rfl)
theorem dX3_secret_116 : decode cX3_secret 116 = .ok (.invokevirtual 69, 3) := dk_182 0 69 (dk_at dksX3_secret_4 12 rfl rfl)
theorem dX3_secret_119 : decode cX3_secret 119 = .ok (.ireturn, 1) := dk_172 (dk_at dksX3_secret_4 15 rfl rfl)
theorem dX3_secret_120 : decode cX3_secret 120 = .ok (.aload_n 0, 1) := dk_42 (dk_at dksX3_secret_4 16 rfl rfl)
theorem dX3_secret_121 : decode cX3_secret 121 = .ok (.aload_n 0, 1) := dk_42 (dk_at dksX3_secret_4 17 rfl rfl)
theorem dX3_secret_122 : decode cX3_secret 122 = .ok (.iload_n 1, 1) := dk_27 (dk_at dksX3_secret_4 18 rfl rfl)
theorem dX3_secret_123 : decode cX3_secret 123 = .ok (.iload_n 2, 1) := dk_28 (dk_at dksX3_secret_4 19 rfl rfl)
theorem dX3_secret_124 : decode cX3_secret 124 = .ok (.iconst 3, 1) := dk_6 (dk_at dksX3_secret_4 20 rfl rfl)
theorem dX3_secret_125 : decode cX3_secret 125 = .ok (.isub, 1) := dk_100 (dk_at dksX3_secret_4 21 rfl rfl)
theorem dX3_secret_126 : decode cX3_secret 126 = .ok (.invokevirtual 180, 3) := dk_182 0 180 (dk_at dksX3_secret_5 0 rfl rfl)
theorem dX3_secret_129 : decode cX3_secret 129 = .ok (.invokevirtual 69, 3) := dk_182 0 69 (dk_at dksX3_secret_5 3 rfl rfl)
theorem dX3_secret_132 : decode cX3_secret 132 = .ok (.ireturn, 1) := dk_172 (dk_at dksX3_secret_5 6 rfl rfl)
abbrev cX3_count : ByteArray := prog_27_method_56_code
def yX3_count : MethodName := ⟨RX3, "count", "(II)I"⟩
def dkwX3_count_2 : List UInt8 := [132, 4, 1, 167, 255, 212, 29, 172]
abbrev dktX3_count_2 : List UInt8 := dkwX3_count_2 ++ []
def dkwX3_count_1 : List UInt8 := [2, 159, 0, 14, 42, 27, 21, 4, 182, 0, 90, 28, 160, 0, 7, 4, 167, 0, 4, 3, 96, 62]
abbrev dktX3_count_1 : List UInt8 := dkwX3_count_1 ++ dktX3_count_2
def dkwX3_count_0 : List UInt8 := [3, 62, 4, 54, 4, 21, 4, 16, 24, 163, 0, 43, 29, 42, 27, 21, 4, 182, 0, 86, 153, 0, 23, 28]
abbrev dktX3_count_0 : List UInt8 := dkwX3_count_0 ++ dktX3_count_1
theorem dksX3_count_0 : cX3_count.data.toList.drop 0 = dktX3_count_0 := by decide +kernel
theorem dksX3_count_1 : cX3_count.data.toList.drop 24 = dktX3_count_1 := dk_seg dksX3_count_0 24 rfl rfl
theorem dksX3_count_2 : cX3_count.data.toList.drop 46 = dktX3_count_2 := dk_seg dksX3_count_1 22 rfl rfl
theorem dX3_count_0 : decode cX3_count 0 = .ok (.iconst 0, 1) := dk_3 (dk_at dksX3_count_0 0 rfl rfl)
theorem dX3_count_1 : decode cX3_count 1 = .ok (.istore_n 3, 1) := dk_62 (dk_at dksX3_count_0 1 rfl rfl)
theorem dX3_count_2 : decode cX3_count 2 = .ok (.iconst 1, 1) := dk_4 (dk_at dksX3_count_0 2 rfl rfl)
theorem dX3_count_3 : decode cX3_count 3 = .ok (.istore 4, 2) := dk_54 4 (dk_at dksX3_count_0 3 rfl rfl)
theorem dX3_count_5 : decode cX3_count 5 = .ok (.iload 4, 2) := dk_21 4 (dk_at dksX3_count_0 5 rfl rfl)
theorem dX3_count_7 : decode cX3_count 7 = .ok (.bipush 24, 2) := dk_16 24 (dk_at dksX3_count_0 7 rfl rfl)
theorem dX3_count_9 : decode cX3_count 9 = .ok (.if_icmp .gt 43, 3) := dk_163 0 43 (dk_at dksX3_count_0 9 rfl rfl)
theorem dX3_count_12 : decode cX3_count 12 = .ok (.iload_n 3, 1) := dk_29 (dk_at dksX3_count_0 12 rfl rfl)
theorem dX3_count_13 : decode cX3_count 13 = .ok (.aload_n 0, 1) := dk_42 (dk_at dksX3_count_0 13 rfl rfl)
theorem dX3_count_14 : decode cX3_count 14 = .ok (.iload_n 1, 1) := dk_27 (dk_at dksX3_count_0 14 rfl rfl)
theorem dX3_count_15 : decode cX3_count 15 = .ok (.iload 4, 2) := dk_21 4 (dk_at dksX3_count_0 15 rfl rfl)
theorem dX3_count_17 : decode cX3_count 17 = .ok (.invokevirtual 86, 3) := dk_182 0 86 (dk_at dksX3_count_0 17 rfl rfl)
theorem dX3_count_20 : decode cX3_count 20 = .ok (.ifCond .eq 23, 3) := dk_153 0 23 (dk_at dksX3_count_0 20 rfl rfl)
theorem dX3_count_23 : decode cX3_count 23 = .ok (.iload_n 2, 1) := dk_28 (dk_at dksX3_count_0 23 rfl rfl)
theorem dX3_count_24 : decode cX3_count 24 = .ok (.iconst (-1), 1) := dk_2 (dk_at dksX3_count_1 0 rfl rfl)
theorem dX3_count_25 : decode cX3_count 25 = .ok (.if_icmp .eq 14, 3) := dk_159 0 14 (dk_at dksX3_count_1 1 rfl rfl)
theorem dX3_count_28 : decode cX3_count 28 = .ok (.aload_n 0, 1) := dk_42 (dk_at dksX3_count_1 4 rfl rfl)
theorem dX3_count_29 : decode cX3_count 29 = .ok (.iload_n 1, 1) := dk_27 (dk_at dksX3_count_1 5 rfl rfl)
theorem dX3_count_30 : decode cX3_count 30 = .ok (.iload 4, 2) := dk_21 4 (dk_at dksX3_count_1 6 rfl rfl)
theorem dX3_count_32 : decode cX3_count 32 = .ok (.invokevirtual 90, 3) := dk_182 0 90 (dk_at dksX3_count_1 8 rfl rfl)
theorem dX3_count_35 : decode cX3_count 35 = .ok (.iload_n 2, 1) := dk_28 (dk_at dksX3_count_1 11 rfl rfl)
theorem dX3_count_36 : decode cX3_count 36 = .ok (.if_icmp .ne 7, 3) := dk_160 0 7 (dk_at dksX3_count_1 12 rfl rfl)
theorem dX3_count_39 : decode cX3_count 39 = .ok (.iconst 1, 1) := dk_4 (dk_at dksX3_count_1 15 rfl rfl)
theorem dX3_count_40 : decode cX3_count 40 = .ok (.goto 4, 3) := dk_167 0 4 (dk_at dksX3_count_1 16 rfl rfl)
theorem dX3_count_43 : decode cX3_count 43 = .ok (.iconst 0, 1) := dk_3 (dk_at dksX3_count_1 19 rfl rfl)
theorem dX3_count_44 : decode cX3_count 44 = .ok (.iadd, 1) := dk_96 (dk_at dksX3_count_1 20 rfl rfl)
theorem dX3_count_45 : decode cX3_count 45 = .ok (.istore_n 3, 1) := dk_62 (dk_at dksX3_count_1 21 rfl rfl)
theorem dX3_count_46 : decode cX3_count 46 = .ok (.iinc 4 1, 3) := dk_132 4 1 (dk_at dksX3_count_2 0 rfl rfl)
theorem dX3_count_49 : decode cX3_count 49 = .ok (.goto (-44), 3) := dk_167 255 212 (dk_at dksX3_count_2 3 rfl rfl)
theorem dX3_count_52 : decode cX3_count 52 = .ok (.iload_n 3, 1) := dk_29 (dk_at dksX3_count_2 6 rfl rfl)
theorem dX3_count_53 : decode cX3_count 53 = .ok (.ireturn, 1) := dk_172 (dk_at dksX3_count_2 7 rfl rfl)
abbrev cX3_commitment : ByteArray := prog_27_method_58_code
def yX3_commitment : MethodName := ⟨RX3, "commitment", "(II)I"⟩
def dkwX3_commitment_2 : List UInt8 := [5, 182, 0, 80, 172]
abbrev dktX3_commitment_2 : List UInt8 := dkwX3_commitment_2 ++ []
def dkwX3_commitment_1 : List UInt8 := [4, 100, 184, 0, 45, 153, 0, 18, 42, 42, 27, 6, 28, 96, 182, 0, 49, 182, 0, 69, 167, 0, 8, 42]
abbrev dktX3_commitment_1 : List UInt8 := dkwX3_commitment_1 ++ dktX3_commitment_2
def dkwX3_commitment_0 : List UInt8 := [42, 27, 182, 0, 121, 62, 29, 153, 0, 9, 42, 29, 182, 0, 80, 172, 28, 3, 42, 27, 4, 182, 0, 49]
abbrev dktX3_commitment_0 : List UInt8 := dkwX3_commitment_0 ++ dktX3_commitment_1
theorem dksX3_commitment_0 : cX3_commitment.data.toList.drop 0 = dktX3_commitment_0 := by decide +kernel
theorem dksX3_commitment_1 : cX3_commitment.data.toList.drop 24 = dktX3_commitment_1 := dk_seg dksX3_commitment_0 24 rfl rfl
theorem dksX3_commitment_2 : cX3_commitment.data.toList.drop 48 = dktX3_commitment_2 := dk_seg dksX3_commitment_1 24 rfl rfl
theorem dX3_commitment_0 : decode cX3_commitment 0 = .ok (.aload_n 0, 1) := dk_42 (dk_at dksX3_commitment_0 0 rfl rfl)
theorem dX3_commitment_1 : decode cX3_commitment 1 = .ok (.iload_n 1, 1) := dk_27 (dk_at dksX3_commitment_0 1 rfl rfl)
theorem dX3_commitment_2 : decode cX3_commitment 2 = .ok (.invokevirtual 121, 3) := dk_182 0 121 (dk_at dksX3_commitment_0 2 rfl rfl)
theorem dX3_commitment_5 : decode cX3_commitment 5 = .ok (.istore_n 3, 1) := dk_62 (dk_at dksX3_commitment_0 5 rfl rfl)
theorem dX3_commitment_6 : decode cX3_commitment 6 = .ok (.iload_n 3, 1) := dk_29 (dk_at dksX3_commitment_0 6 rfl rfl)
theorem dX3_commitment_7 : decode cX3_commitment 7 = .ok (.ifCond .eq 9, 3) := dk_153 0 9 (dk_at dksX3_commitment_0 7 rfl rfl)
theorem dX3_commitment_10 : decode cX3_commitment 10 = .ok (.aload_n 0, 1) := dk_42 (dk_at dksX3_commitment_0 10 rfl rfl)
theorem dX3_commitment_11 : decode cX3_commitment 11 = .ok (.iload_n 3, 1) := dk_29 (dk_at dksX3_commitment_0 11 rfl rfl)
theorem dX3_commitment_12 : decode cX3_commitment 12 = .ok (.invokevirtual 80, 3) := dk_182 0 80 (dk_at dksX3_commitment_0 12 rfl rfl)
theorem dX3_commitment_15 : decode cX3_commitment 15 = .ok (.ireturn, 1) := dk_172 (dk_at dksX3_commitment_0 15 rfl rfl)
theorem dX3_commitment_16 : decode cX3_commitment 16 = .ok (.iload_n 2, 1) := dk_28 (dk_at dksX3_commitment_0 16 rfl rfl)
theorem dX3_commitment_17 : decode cX3_commitment 17 = .ok (.iconst 0, 1) := dk_3 (dk_at dksX3_commitment_0 17 rfl rfl)
theorem dX3_commitment_18 : decode cX3_commitment 18 = .ok (.aload_n 0, 1) := dk_42 (dk_at dksX3_commitment_0 18 rfl rfl)
theorem dX3_commitment_19 : decode cX3_commitment 19 = .ok (.iload_n 1, 1) := dk_27 (dk_at dksX3_commitment_0 19 rfl rfl)
theorem dX3_commitment_20 : decode cX3_commitment 20 = .ok (.iconst 1, 1) := dk_4 (dk_at dksX3_commitment_0 20 rfl rfl)
theorem dX3_commitment_21 : decode cX3_commitment 21 = .ok (.invokevirtual 49, 3) := dk_182 0 49 (dk_at dksX3_commitment_0 21 rfl rfl)
theorem dX3_commitment_24 : decode cX3_commitment 24 = .ok (.iconst 1, 1) := dk_4 (dk_at dksX3_commitment_1 0 rfl rfl)
theorem dX3_commitment_25 : decode cX3_commitment 25 = .ok (.isub, 1) := dk_100 (dk_at dksX3_commitment_1 1 rfl rfl)
theorem dX3_commitment_26 : decode cX3_commitment 26 = .ok (.invokestatic 45, 3) := dk_184 0 45 (dk_at dksX3_commitment_1 2 rfl rfl)
theorem dX3_commitment_29 : decode cX3_commitment 29 = .ok (.ifCond .eq 18, 3) := dk_153 0 18 (dk_at dksX3_commitment_1 5 rfl rfl)
theorem dX3_commitment_32 : decode cX3_commitment 32 = .ok (.aload_n 0, 1) := dk_42 (dk_at dksX3_commitment_1 8 rfl rfl)
theorem dX3_commitment_33 : decode cX3_commitment 33 = .ok (.aload_n 0, 1) := dk_42 (dk_at dksX3_commitment_1 9 rfl rfl)
theorem dX3_commitment_34 : decode cX3_commitment 34 = .ok (.iload_n 1, 1) := dk_27 (dk_at dksX3_commitment_1 10 rfl rfl)
theorem dX3_commitment_35 : decode cX3_commitment 35 = .ok (.iconst 3, 1) := dk_6 (dk_at dksX3_commitment_1 11 rfl rfl)
theorem dX3_commitment_36 : decode cX3_commitment 36 = .ok (.iload_n 2, 1) := dk_28 (dk_at dksX3_commitment_1 12 rfl rfl)
theorem dX3_commitment_37 : decode cX3_commitment 37 = .ok (.iadd, 1) := dk_96 (dk_at dksX3_commitment_1 13 rfl rfl)
theorem dX3_commitment_38 : decode cX3_commitment 38 = .ok (.invokevirtual 49, 3) := dk_182 0 49 (dk_at dksX3_commitment_1 14 rfl rfl)
theorem dX3_commitment_41 : decode cX3_commitment 41 = .ok (.invokevirtual 69, 3) := dk_182 0 69 (dk_at dksX3_commitment_1 17 rfl rfl)
theorem dX3_commitment_44 : decode cX3_commitment 44 = .ok (.goto 8, 3) := dk_167 0 8 (dk_at dksX3_commitment_1 20 rfl rfl)
theorem dX3_commitment_47 : decode cX3_commitment 47 = .ok (.aload_n 0, 1) := dk_42 (dk_at dksX3_commitment_1 23 rfl rfl)
theorem dX3_commitment_48 : decode cX3_commitment 48 = .ok (.iconst 2, 1) := dk_5 (dk_at dksX3_commitment_2 0 rfl rfl)
theorem dX3_commitment_49 : decode cX3_commitment 49 = .ok (.invokevirtual 80, 3) := dk_182 0 80 (dk_at dksX3_commitment_2 1 rfl rfl)
theorem dX3_commitment_52 : decode cX3_commitment 52 = .ok (.ireturn, 1) := dk_172 (dk_at dksX3_commitment_2 4 rfl rfl)
abbrev cX3_share : ByteArray := prog_27_method_59_code
def yX3_share : MethodName := ⟨RX3, "share", "(III)I"⟩
def dkwX3_share_3 : List UInt8 := [96, 182, 0, 57, 182, 0, 69, 172]
abbrev dktX3_share_3 : List UInt8 := dkwX3_share_3 ++ []
def dkwX3_share_2 : List UInt8 := [182, 0, 80, 172, 42, 29, 5, 160, 0, 12, 42, 27, 28, 182, 0, 90, 167, 0, 12, 42, 27, 28, 4, 29]
abbrev dktX3_share_2 : List UInt8 := dkwX3_share_2 ++ dktX3_share_3
def dkwX3_share_1 : List UInt8 := [184, 0, 45, 154, 0, 9, 42, 5, 182, 0, 80, 172, 42, 27, 28, 182, 0, 86, 154, 0, 9, 42, 6]
abbrev dktX3_share_1 : List UInt8 := dkwX3_share_1 ++ dktX3_share_2
def dkwX3_share_0 : List UInt8 := [27, 184, 0, 107, 153, 0, 10, 28, 184, 0, 183, 154, 0, 9, 42, 4, 182, 0, 80, 172, 29, 3, 5]
abbrev dktX3_share_0 : List UInt8 := dkwX3_share_0 ++ dktX3_share_1
theorem dksX3_share_0 : cX3_share.data.toList.drop 0 = dktX3_share_0 := by decide +kernel
theorem dksX3_share_1 : cX3_share.data.toList.drop 23 = dktX3_share_1 := dk_seg dksX3_share_0 23 rfl rfl
theorem dksX3_share_2 : cX3_share.data.toList.drop 46 = dktX3_share_2 := dk_seg dksX3_share_1 23 rfl rfl
theorem dksX3_share_3 : cX3_share.data.toList.drop 70 = dktX3_share_3 := dk_seg dksX3_share_2 24 rfl rfl
theorem dX3_share_0 : decode cX3_share 0 = .ok (.iload_n 1, 1) := dk_27 (dk_at dksX3_share_0 0 rfl rfl)
theorem dX3_share_1 : decode cX3_share 1 = .ok (.invokestatic 107, 3) := dk_184 0 107 (dk_at dksX3_share_0 1 rfl rfl)
theorem dX3_share_4 : decode cX3_share 4 = .ok (.ifCond .eq 10, 3) := dk_153 0 10 (dk_at dksX3_share_0 4 rfl rfl)
theorem dX3_share_7 : decode cX3_share 7 = .ok (.iload_n 2, 1) := dk_28 (dk_at dksX3_share_0 7 rfl rfl)
theorem dX3_share_8 : decode cX3_share 8 = .ok (.invokestatic 183, 3) := dk_184 0 183 (dk_at dksX3_share_0 8 rfl rfl)
theorem dX3_share_11 : decode cX3_share 11 = .ok (.ifCond .ne 9, 3) := dk_154 0 9 (dk_at dksX3_share_0 11 rfl rfl)
theorem dX3_share_14 : decode cX3_share 14 = .ok (.aload_n 0, 1) := dk_42 (dk_at dksX3_share_0 14 rfl rfl)
theorem dX3_share_15 : decode cX3_share 15 = .ok (.iconst 1, 1) := dk_4 (dk_at dksX3_share_0 15 rfl rfl)
theorem dX3_share_16 : decode cX3_share 16 = .ok (.invokevirtual 80, 3) := dk_182 0 80 (dk_at dksX3_share_0 16 rfl rfl)
theorem dX3_share_19 : decode cX3_share 19 = .ok (.ireturn, 1) := dk_172 (dk_at dksX3_share_0 19 rfl rfl)
theorem dX3_share_20 : decode cX3_share 20 = .ok (.iload_n 3, 1) := dk_29 (dk_at dksX3_share_0 20 rfl rfl)
theorem dX3_share_21 : decode cX3_share 21 = .ok (.iconst 0, 1) := dk_3 (dk_at dksX3_share_0 21 rfl rfl)
theorem dX3_share_22 : decode cX3_share 22 = .ok (.iconst 2, 1) := dk_5 (dk_at dksX3_share_0 22 rfl rfl)
theorem dX3_share_23 : decode cX3_share 23 = .ok (.invokestatic 45, 3) := dk_184 0 45 (dk_at dksX3_share_1 0 rfl rfl)
theorem dX3_share_26 : decode cX3_share 26 = .ok (.ifCond .ne 9, 3) := dk_154 0 9 (dk_at dksX3_share_1 3 rfl rfl)
theorem dX3_share_29 : decode cX3_share 29 = .ok (.aload_n 0, 1) := dk_42 (dk_at dksX3_share_1 6 rfl rfl)
theorem dX3_share_30 : decode cX3_share 30 = .ok (.iconst 2, 1) := dk_5 (dk_at dksX3_share_1 7 rfl rfl)
theorem dX3_share_31 : decode cX3_share 31 = .ok (.invokevirtual 80, 3) := dk_182 0 80 (dk_at dksX3_share_1 8 rfl rfl)
theorem dX3_share_34 : decode cX3_share 34 = .ok (.ireturn, 1) := dk_172 (dk_at dksX3_share_1 11 rfl rfl)
theorem dX3_share_35 : decode cX3_share 35 = .ok (.aload_n 0, 1) := dk_42 (dk_at dksX3_share_1 12 rfl rfl)
theorem dX3_share_36 : decode cX3_share 36 = .ok (.iload_n 1, 1) := dk_27 (dk_at dksX3_share_1 13 rfl rfl)
theorem dX3_share_37 : decode cX3_share 37 = .ok (.iload_n 2, 1) := dk_28 (dk_at dksX3_share_1 14 rfl rfl)
theorem dX3_share_38 : decode cX3_share 38 = .ok (.invokevirtual 86, 3) := dk_182 0 86 (dk_at dksX3_share_1 15 rfl rfl)
theorem dX3_share_41 : decode cX3_share 41 = .ok (.ifCond .ne 9, 3) := dk_154 0 9 (dk_at dksX3_share_1 18 rfl rfl)
theorem dX3_share_44 : decode cX3_share 44 = .ok (.aload_n 0, 1) := dk_42 (dk_at dksX3_share_1 21 rfl rfl)
theorem dX3_share_45 : decode cX3_share 45 = .ok (.iconst 3, 1) := dk_6 (dk_at dksX3_share_1 22 rfl rfl)
theorem dX3_share_46 : decode cX3_share 46 = .ok (.invokevirtual 80, 3) := dk_182 0 80 (dk_at dksX3_share_2 0 rfl rfl)
theorem dX3_share_49 : decode cX3_share 49 = .ok (.ireturn, 1) := dk_172 (dk_at dksX3_share_2 3 rfl rfl)
theorem dX3_share_50 : decode cX3_share 50 = .ok (.aload_n 0, 1) := dk_42 (dk_at dksX3_share_2 4 rfl rfl)
theorem dX3_share_51 : decode cX3_share 51 = .ok (.iload_n 3, 1) := dk_29 (dk_at dksX3_share_2 5 rfl rfl)
theorem dX3_share_52 : decode cX3_share 52 = .ok (.iconst 2, 1) := dk_5 (dk_at dksX3_share_2 6 rfl rfl)
theorem dX3_share_53 : decode cX3_share 53 = .ok (.if_icmp .ne 12, 3) := dk_160 0 12 (dk_at dksX3_share_2 7 rfl rfl)
theorem dX3_share_56 : decode cX3_share 56 = .ok (.aload_n 0, 1) := dk_42 (dk_at dksX3_share_2 10 rfl rfl)
theorem dX3_share_57 : decode cX3_share 57 = .ok (.iload_n 1, 1) := dk_27 (dk_at dksX3_share_2 11 rfl rfl)
theorem dX3_share_58 : decode cX3_share 58 = .ok (.iload_n 2, 1) := dk_28 (dk_at dksX3_share_2 12 rfl rfl)
theorem dX3_share_59 : decode cX3_share 59 = .ok (.invokevirtual 90, 3) := dk_182 0 90 (dk_at dksX3_share_2 13 rfl rfl)
theorem dX3_share_62 : decode cX3_share 62 = .ok (.goto 12, 3) := dk_167 0 12 (dk_at dksX3_share_2 16 rfl rfl)
theorem dX3_share_65 : decode cX3_share 65 = .ok (.aload_n 0, 1) := dk_42 (dk_at dksX3_share_2 19 rfl rfl)
theorem dX3_share_66 : decode cX3_share 66 = .ok (.iload_n 1, 1) := dk_27 (dk_at dksX3_share_2 20 rfl rfl)
theorem dX3_share_67 : decode cX3_share 67 = .ok (.iload_n 2, 1) := dk_28 (dk_at dksX3_share_2 21 rfl rfl)
theorem dX3_share_68 : decode cX3_share 68 = .ok (.iconst 1, 1) := dk_4 (dk_at dksX3_share_2 22 rfl rfl)
theorem dX3_share_69 : decode cX3_share 69 = .ok (.iload_n 3, 1) := dk_29 (dk_at dksX3_share_2 23 rfl rfl)
theorem dX3_share_70 : decode cX3_share 70 = .ok (.iadd, 1) := dk_96 (dk_at dksX3_share_3 0 rfl rfl)
theorem dX3_share_71 : decode cX3_share 71 = .ok (.invokevirtual 57, 3) := dk_182 0 57 (dk_at dksX3_share_3 1 rfl rfl)
theorem dX3_share_74 : decode cX3_share 74 = .ok (.invokevirtual 69, 3) := dk_182 0 69 (dk_at dksX3_share_3 4 rfl rfl)
theorem dX3_share_77 : decode cX3_share 77 = .ok (.ireturn, 1) := dk_172 (dk_at dksX3_share_3 7 rfl rfl)
abbrev cX3_isPlace : ByteArray := prog_27_method_9_code
def yX3_isPlace : MethodName := ⟨RX3, "isPlace", "(I)Z"⟩
def dkwX3_isPlace_0 : List UInt8 := [26, 4, 16, 24, 184, 0, 45, 172]
abbrev dktX3_isPlace_0 : List UInt8 := dkwX3_isPlace_0 ++ []
theorem dksX3_isPlace_0 : cX3_isPlace.data.toList.drop 0 = dktX3_isPlace_0 := by decide +kernel
theorem dX3_isPlace_0 : decode cX3_isPlace 0 = .ok (.iload_n 0, 1) := dk_26 (dk_at dksX3_isPlace_0 0 rfl rfl)
theorem dX3_isPlace_1 : decode cX3_isPlace 1 = .ok (.iconst 1, 1) := dk_4 (dk_at dksX3_isPlace_0 1 rfl rfl)
theorem dX3_isPlace_2 : decode cX3_isPlace 2 = .ok (.bipush 24, 2) := dk_16 24 (dk_at dksX3_isPlace_0 2 rfl rfl)
theorem dX3_isPlace_4 : decode cX3_isPlace 4 = .ok (.invokestatic 45, 3) := dk_184 0 45 (dk_at dksX3_isPlace_0 4 rfl rfl)
theorem dX3_isPlace_7 : decode cX3_isPlace 7 = .ok (.ireturn, 1) := dk_172 (dk_at dksX3_isPlace_0 7 rfl rfl)
abbrev cX3_setShare : ByteArray := prog_27_method_60_code
def yX3_setShare : MethodName := ⟨RX3, "setShare", "(III)I"⟩
def dkwX3_setShare_3 : List UInt8 := [182, 0, 57, 182, 0, 103, 42, 21, 4, 182, 0, 69, 172]
abbrev dktX3_setShare_3 : List UInt8 := dkwX3_setShare_3 ++ []
def dkwX3_setShare_2 : List UInt8 := [42, 6, 182, 0, 80, 172, 42, 27, 28, 4, 182, 0, 57, 54, 4, 42, 27, 28, 29, 42, 27, 28, 5]
abbrev dktX3_setShare_2 : List UInt8 := dkwX3_setShare_2 ++ dktX3_setShare_3
def dkwX3_setShare_1 : List UInt8 := [17, 3, 250, 184, 0, 45, 154, 0, 9, 42, 5, 182, 0, 80, 172, 42, 27, 28, 182, 0, 86, 154, 0, 9]
abbrev dktX3_setShare_1 : List UInt8 := dkwX3_setShare_1 ++ dktX3_setShare_2
def dkwX3_setShare_0 : List UInt8 := [27, 184, 0, 107, 153, 0, 10, 28, 184, 0, 183, 154, 0, 9, 42, 4, 182, 0, 80, 172, 29, 3]
abbrev dktX3_setShare_0 : List UInt8 := dkwX3_setShare_0 ++ dktX3_setShare_1
theorem dksX3_setShare_0 : cX3_setShare.data.toList.drop 0 = dktX3_setShare_0 := by decide +kernel
theorem dksX3_setShare_1 : cX3_setShare.data.toList.drop 22 = dktX3_setShare_1 := dk_seg dksX3_setShare_0 22 rfl rfl
theorem dksX3_setShare_2 : cX3_setShare.data.toList.drop 46 = dktX3_setShare_2 := dk_seg dksX3_setShare_1 24 rfl rfl
theorem dksX3_setShare_3 : cX3_setShare.data.toList.drop 69 = dktX3_setShare_3 := dk_seg dksX3_setShare_2 23 rfl rfl
theorem dX3_setShare_0 : decode cX3_setShare 0 = .ok (.iload_n 1, 1) := dk_27 (dk_at dksX3_setShare_0 0 rfl rfl)
theorem dX3_setShare_1 : decode cX3_setShare 1 = .ok (.invokestatic 107, 3) := dk_184 0 107 (dk_at dksX3_setShare_0 1 rfl rfl)
theorem dX3_setShare_4 : decode cX3_setShare 4 = .ok (.ifCond .eq 10, 3) := dk_153 0 10 (dk_at dksX3_setShare_0 4 rfl rfl)
theorem dX3_setShare_7 : decode cX3_setShare 7 = .ok (.iload_n 2, 1) := dk_28 (dk_at dksX3_setShare_0 7 rfl rfl)
theorem dX3_setShare_8 : decode cX3_setShare 8 = .ok (.invokestatic 183, 3) := dk_184 0 183 (dk_at dksX3_setShare_0 8 rfl rfl)
theorem dX3_setShare_11 : decode cX3_setShare 11 = .ok (.ifCond .ne 9, 3) := dk_154 0 9 (dk_at dksX3_setShare_0 11 rfl rfl)
theorem dX3_setShare_14 : decode cX3_setShare 14 = .ok (.aload_n 0, 1) := dk_42 (dk_at dksX3_setShare_0 14 rfl rfl)
theorem dX3_setShare_15 : decode cX3_setShare 15 = .ok (.iconst 1, 1) := dk_4 (dk_at dksX3_setShare_0 15 rfl rfl)
theorem dX3_setShare_16 : decode cX3_setShare 16 = .ok (.invokevirtual 80, 3) := dk_182 0 80 (dk_at dksX3_setShare_0 16 rfl rfl)
theorem dX3_setShare_19 : decode cX3_setShare 19 = .ok (.ireturn, 1) := dk_172 (dk_at dksX3_setShare_0 19 rfl rfl)
theorem dX3_setShare_20 : decode cX3_setShare 20 = .ok (.iload_n 3, 1) := dk_29 (dk_at dksX3_setShare_0 20 rfl rfl)
theorem dX3_setShare_21 : decode cX3_setShare 21 = .ok (.iconst 0, 1) := dk_3 (dk_at dksX3_setShare_0 21 rfl rfl)
theorem dX3_setShare_22 : decode cX3_setShare 22 = .ok (.sipush 1018, 3) := dk_17 3 250 (dk_at dksX3_setShare_1 0 rfl rfl)
theorem dX3_setShare_25 : decode cX3_setShare 25 = .ok (.invokestatic 45, 3) := dk_184 0 45 (dk_at dksX3_setShare_1 3 rfl rfl)
theorem dX3_setShare_28 : decode cX3_setShare 28 = .ok (.ifCond .ne 9, 3) := dk_154 0 9 (dk_at dksX3_setShare_1 6 rfl rfl)
theorem dX3_setShare_31 : decode cX3_setShare 31 = .ok (.aload_n 0, 1) := dk_42 (dk_at dksX3_setShare_1 9 rfl rfl)
theorem dX3_setShare_32 : decode cX3_setShare 32 = .ok (.iconst 2, 1) := dk_5 (dk_at dksX3_setShare_1 10 rfl rfl)
theorem dX3_setShare_33 : decode cX3_setShare 33 = .ok (.invokevirtual 80, 3) := dk_182 0 80 (dk_at dksX3_setShare_1 11 rfl rfl)
theorem dX3_setShare_36 : decode cX3_setShare 36 = .ok (.ireturn, 1) := dk_172 (dk_at dksX3_setShare_1 14 rfl rfl)
theorem dX3_setShare_37 : decode cX3_setShare 37 = .ok (.aload_n 0, 1) := dk_42 (dk_at dksX3_setShare_1 15 rfl rfl)
theorem dX3_setShare_38 : decode cX3_setShare 38 = .ok (.iload_n 1, 1) := dk_27 (dk_at dksX3_setShare_1 16 rfl rfl)
theorem dX3_setShare_39 : decode cX3_setShare 39 = .ok (.iload_n 2, 1) := dk_28 (dk_at dksX3_setShare_1 17 rfl rfl)
theorem dX3_setShare_40 : decode cX3_setShare 40 = .ok (.invokevirtual 86, 3) := dk_182 0 86 (dk_at dksX3_setShare_1 18 rfl rfl)
theorem dX3_setShare_43 : decode cX3_setShare 43 = .ok (.ifCond .ne 9, 3) := dk_154 0 9 (dk_at dksX3_setShare_1 21 rfl rfl)
theorem dX3_setShare_46 : decode cX3_setShare 46 = .ok (.aload_n 0, 1) := dk_42 (dk_at dksX3_setShare_2 0 rfl rfl)
theorem dX3_setShare_47 : decode cX3_setShare 47 = .ok (.iconst 3, 1) := dk_6 (dk_at dksX3_setShare_2 1 rfl rfl)
theorem dX3_setShare_48 : decode cX3_setShare 48 = .ok (.invokevirtual 80, 3) := dk_182 0 80 (dk_at dksX3_setShare_2 2 rfl rfl)
theorem dX3_setShare_51 : decode cX3_setShare 51 = .ok (.ireturn, 1) := dk_172 (dk_at dksX3_setShare_2 5 rfl rfl)
theorem dX3_setShare_52 : decode cX3_setShare 52 = .ok (.aload_n 0, 1) := dk_42 (dk_at dksX3_setShare_2 6 rfl rfl)
theorem dX3_setShare_53 : decode cX3_setShare 53 = .ok (.iload_n 1, 1) := dk_27 (dk_at dksX3_setShare_2 7 rfl rfl)
theorem dX3_setShare_54 : decode cX3_setShare 54 = .ok (.iload_n 2, 1) := dk_28 (dk_at dksX3_setShare_2 8 rfl rfl)
theorem dX3_setShare_55 : decode cX3_setShare 55 = .ok (.iconst 1, 1) := dk_4 (dk_at dksX3_setShare_2 9 rfl rfl)
theorem dX3_setShare_56 : decode cX3_setShare 56 = .ok (.invokevirtual 57, 3) := dk_182 0 57 (dk_at dksX3_setShare_2 10 rfl rfl)
theorem dX3_setShare_59 : decode cX3_setShare 59 = .ok (.istore 4, 2) := dk_54 4 (dk_at dksX3_setShare_2 13 rfl rfl)
theorem dX3_setShare_61 : decode cX3_setShare 61 = .ok (.aload_n 0, 1) := dk_42 (dk_at dksX3_setShare_2 15 rfl rfl)
theorem dX3_setShare_62 : decode cX3_setShare 62 = .ok (.iload_n 1, 1) := dk_27 (dk_at dksX3_setShare_2 16 rfl rfl)
theorem dX3_setShare_63 : decode cX3_setShare 63 = .ok (.iload_n 2, 1) := dk_28 (dk_at dksX3_setShare_2 17 rfl rfl)
theorem dX3_setShare_64 : decode cX3_setShare 64 = .ok (.iload_n 3, 1) := dk_29 (dk_at dksX3_setShare_2 18 rfl rfl)
theorem dX3_setShare_65 : decode cX3_setShare 65 = .ok (.aload_n 0, 1) := dk_42 (dk_at dksX3_setShare_2 19 rfl rfl)
theorem dX3_setShare_66 : decode cX3_setShare 66 = .ok (.iload_n 1, 1) := dk_27 (dk_at dksX3_setShare_2 20 rfl rfl)
theorem dX3_setShare_67 : decode cX3_setShare 67 = .ok (.iload_n 2, 1) := dk_28 (dk_at dksX3_setShare_2 21 rfl rfl)
theorem dX3_setShare_68 : decode cX3_setShare 68 = .ok (.iconst 2, 1) := dk_5 (dk_at dksX3_setShare_2 22 rfl rfl)
theorem dX3_setShare_69 : decode cX3_setShare 69 = .ok (.invokevirtual 57, 3) := dk_182 0 57 (dk_at dksX3_setShare_3 0 rfl rfl)
theorem dX3_setShare_72 : decode cX3_setShare 72 = .ok (.invokevirtual 103, 3) := dk_182 0 103 (dk_at dksX3_setShare_3 3 rfl rfl)
theorem dX3_setShare_75 : decode cX3_setShare 75 = .ok (.aload_n 0, 1) := dk_42 (dk_at dksX3_setShare_3 6 rfl rfl)
theorem dX3_setShare_76 : decode cX3_setShare 76 = .ok (.iload 4, 2) := dk_21 4 (dk_at dksX3_setShare_3 7 rfl rfl)
theorem dX3_setShare_78 : decode cX3_setShare 78 = .ok (.invokevirtual 69, 3) := dk_182 0 69 (dk_at dksX3_setShare_3 9 rfl rfl)
theorem dX3_setShare_81 : decode cX3_setShare 81 = .ok (.ireturn, 1) := dk_172 (dk_at dksX3_setShare_3 12 rfl rfl)
abbrev cX3_shareText : ByteArray := prog_27_method_65_code
def yX3_shareText : MethodName := ⟨RX3, "shareText", "(III)I"⟩
def dkwX3_shareText_4 : List UInt8 := [182, 0, 189, 42, 16, 48, 28, 21, 4, 21, 5, 184, 0, 195, 96, 182, 0, 189, 42, 29, 182, 0, 198, 172]
abbrev dktX3_shareText_4 : List UInt8 := dkwX3_shareText_4 ++ []
def dkwX3_shareText_3 : List UInt8 := [182, 0, 189, 42, 21, 4, 182, 0, 192, 42, 16, 64, 182, 0, 189, 42, 21, 5, 182, 0, 192, 42, 16, 35]
abbrev dktX3_shareText_3 : List UInt8 := dkwX3_shareText_3 ++ dktX3_shareText_4
def dkwX3_shareText_2 : List UInt8 := [54, 4, 42, 27, 28, 5, 182, 0, 57, 54, 5, 42, 3, 181, 0, 186, 42, 28, 182, 0, 192, 42, 16, 58]
abbrev dktX3_shareText_2 : List UInt8 := dkwX3_shareText_2 ++ dktX3_shareText_3
def dkwX3_shareText_1 : List UInt8 := [172, 42, 27, 28, 182, 0, 86, 154, 0, 9, 42, 5, 182, 0, 80, 172, 42, 27, 28, 4, 182, 0, 57]
abbrev dktX3_shareText_1 : List UInt8 := dkwX3_shareText_1 ++ dktX3_shareText_2
def dkwX3_shareText_0 : List UInt8 := [27, 184, 0, 107, 153, 0, 15, 28, 184, 0, 183, 153, 0, 8, 29, 2, 162, 0, 9, 42, 4, 182, 0, 80]
abbrev dktX3_shareText_0 : List UInt8 := dkwX3_shareText_0 ++ dktX3_shareText_1
theorem dksX3_shareText_0 : cX3_shareText.data.toList.drop 0 = dktX3_shareText_0 := by decide +kernel
theorem dksX3_shareText_1 : cX3_shareText.data.toList.drop 24 = dktX3_shareText_1 := dk_seg dksX3_shareText_0 24 rfl rfl
theorem dksX3_shareText_2 : cX3_shareText.data.toList.drop 47 = dktX3_shareText_2 := dk_seg dksX3_shareText_1 23 rfl rfl
theorem dksX3_shareText_3 : cX3_shareText.data.toList.drop 71 = dktX3_shareText_3 := dk_seg dksX3_shareText_2 24 rfl rfl
theorem dksX3_shareText_4 : cX3_shareText.data.toList.drop 95 = dktX3_shareText_4 := dk_seg dksX3_shareText_3 24 rfl rfl
theorem dX3_shareText_0 : decode cX3_shareText 0 = .ok (.iload_n 1, 1) := dk_27 (dk_at dksX3_shareText_0 0 rfl rfl)
theorem dX3_shareText_1 : decode cX3_shareText 1 = .ok (.invokestatic 107, 3) := dk_184 0 107 (dk_at dksX3_shareText_0 1 rfl rfl)
theorem dX3_shareText_4 : decode cX3_shareText 4 = .ok (.ifCond .eq 15, 3) := dk_153 0 15 (dk_at dksX3_shareText_0 4 rfl rfl)
theorem dX3_shareText_7 : decode cX3_shareText 7 = .ok (.iload_n 2, 1) := dk_28 (dk_at dksX3_shareText_0 7 rfl rfl)
theorem dX3_shareText_8 : decode cX3_shareText 8 = .ok (.invokestatic 183, 3) := dk_184 0 183 (dk_at dksX3_shareText_0 8 rfl rfl)
theorem dX3_shareText_11 : decode cX3_shareText 11 = .ok (.ifCond .eq 8, 3) := dk_153 0 8 (dk_at dksX3_shareText_0 11 rfl rfl)
theorem dX3_shareText_14 : decode cX3_shareText 14 = .ok (.iload_n 3, 1) := dk_29 (dk_at dksX3_shareText_0 14 rfl rfl)
theorem dX3_shareText_15 : decode cX3_shareText 15 = .ok (.iconst (-1), 1) := dk_2 (dk_at dksX3_shareText_0 15 rfl rfl)
theorem dX3_shareText_16 : decode cX3_shareText 16 = .ok (.if_icmp .ge 9, 3) := dk_162 0 9 (dk_at dksX3_shareText_0 16 rfl rfl)
theorem dX3_shareText_19 : decode cX3_shareText 19 = .ok (.aload_n 0, 1) := dk_42 (dk_at dksX3_shareText_0 19 rfl rfl)
theorem dX3_shareText_20 : decode cX3_shareText 20 = .ok (.iconst 1, 1) := dk_4 (dk_at dksX3_shareText_0 20 rfl rfl)
theorem dX3_shareText_21 : decode cX3_shareText 21 = .ok (.invokevirtual 80, 3) := dk_182 0 80 (dk_at dksX3_shareText_0 21 rfl rfl)
theorem dX3_shareText_24 : decode cX3_shareText 24 = .ok (.ireturn, 1) := dk_172 (dk_at dksX3_shareText_1 0 rfl rfl)
theorem dX3_shareText_25 : decode cX3_shareText 25 = .ok (.aload_n 0, 1) := dk_42 (dk_at dksX3_shareText_1 1 rfl rfl)
theorem dX3_shareText_26 : decode cX3_shareText 26 = .ok (.iload_n 1, 1) := dk_27 (dk_at dksX3_shareText_1 2 rfl rfl)
theorem dX3_shareText_27 : decode cX3_shareText 27 = .ok (.iload_n 2, 1) := dk_28 (dk_at dksX3_shareText_1 3 rfl rfl)
theorem dX3_shareText_28 : decode cX3_shareText 28 = .ok (.invokevirtual 86, 3) := dk_182 0 86 (dk_at dksX3_shareText_1 4 rfl rfl)
theorem dX3_shareText_31 : decode cX3_shareText 31 = .ok (.ifCond .ne 9, 3) := dk_154 0 9 (dk_at dksX3_shareText_1 7 rfl rfl)
theorem dX3_shareText_34 : decode cX3_shareText 34 = .ok (.aload_n 0, 1) := dk_42 (dk_at dksX3_shareText_1 10 rfl rfl)
theorem dX3_shareText_35 : decode cX3_shareText 35 = .ok (.iconst 2, 1) := dk_5 (dk_at dksX3_shareText_1 11 rfl rfl)
theorem dX3_shareText_36 : decode cX3_shareText 36 = .ok (.invokevirtual 80, 3) := dk_182 0 80 (dk_at dksX3_shareText_1 12 rfl rfl)
theorem dX3_shareText_39 : decode cX3_shareText 39 = .ok (.ireturn, 1) := dk_172 (dk_at dksX3_shareText_1 15 rfl rfl)
theorem dX3_shareText_40 : decode cX3_shareText 40 = .ok (.aload_n 0, 1) := dk_42 (dk_at dksX3_shareText_1 16 rfl rfl)
theorem dX3_shareText_41 : decode cX3_shareText 41 = .ok (.iload_n 1, 1) := dk_27 (dk_at dksX3_shareText_1 17 rfl rfl)
theorem dX3_shareText_42 : decode cX3_shareText 42 = .ok (.iload_n 2, 1) := dk_28 (dk_at dksX3_shareText_1 18 rfl rfl)
theorem dX3_shareText_43 : decode cX3_shareText 43 = .ok (.iconst 1, 1) := dk_4 (dk_at dksX3_shareText_1 19 rfl rfl)
theorem dX3_shareText_44 : decode cX3_shareText 44 = .ok (.invokevirtual 57, 3) := dk_182 0 57 (dk_at dksX3_shareText_1 20 rfl rfl)
theorem dX3_shareText_47 : decode cX3_shareText 47 = .ok (.istore 4, 2) := dk_54 4 (dk_at dksX3_shareText_2 0 rfl rfl)
theorem dX3_shareText_49 : decode cX3_shareText 49 = .ok (.aload_n 0, 1) := dk_42 (dk_at dksX3_shareText_2 2 rfl rfl)
theorem dX3_shareText_50 : decode cX3_shareText 50 = .ok (.iload_n 1, 1) := dk_27 (dk_at dksX3_shareText_2 3 rfl rfl)
theorem dX3_shareText_51 : decode cX3_shareText 51 = .ok (.iload_n 2, 1) := dk_28 (dk_at dksX3_shareText_2 4 rfl rfl)
theorem dX3_shareText_52 : decode cX3_shareText 52 = .ok (.iconst 2, 1) := dk_5 (dk_at dksX3_shareText_2 5 rfl rfl)
theorem dX3_shareText_53 : decode cX3_shareText 53 = .ok (.invokevirtual 57, 3) := dk_182 0 57 (dk_at dksX3_shareText_2 6 rfl rfl)
theorem dX3_shareText_56 : decode cX3_shareText 56 = .ok (.istore 5, 2) := dk_54 5 (dk_at dksX3_shareText_2 9 rfl rfl)
theorem dX3_shareText_58 : decode cX3_shareText 58 = .ok (.aload_n 0, 1) := dk_42 (dk_at dksX3_shareText_2 11 rfl rfl)
theorem dX3_shareText_59 : decode cX3_shareText 59 = .ok (.iconst 0, 1) := dk_3 (dk_at dksX3_shareText_2 12 rfl rfl)
theorem dX3_shareText_60 : decode cX3_shareText 60 = .ok (.putfield 186, 3) := dk_181 0 186 (dk_at dksX3_shareText_2 13 rfl rfl)
theorem dX3_shareText_63 : decode cX3_shareText 63 = .ok (.aload_n 0, 1) := dk_42 (dk_at dksX3_shareText_2 16 rfl rfl)
theorem dX3_shareText_64 : decode cX3_shareText 64 = .ok (.iload_n 2, 1) := dk_28 (dk_at dksX3_shareText_2 17 rfl rfl)
theorem dX3_shareText_65 : decode cX3_shareText 65 = .ok (.invokevirtual 192, 3) := dk_182 0 192 (dk_at dksX3_shareText_2 18 rfl rfl)
theorem dX3_shareText_68 : decode cX3_shareText 68 = .ok (.aload_n 0, 1) := dk_42 (dk_at dksX3_shareText_2 21 rfl rfl)
theorem dX3_shareText_69 : decode cX3_shareText 69 = .ok (.bipush 58, 2) := dk_16 58 (dk_at dksX3_shareText_2 22 rfl rfl)
theorem dX3_shareText_71 : decode cX3_shareText 71 = .ok (.invokevirtual 189, 3) := dk_182 0 189 (dk_at dksX3_shareText_3 0 rfl rfl)
theorem dX3_shareText_74 : decode cX3_shareText 74 = .ok (.aload_n 0, 1) := dk_42 (dk_at dksX3_shareText_3 3 rfl rfl)
theorem dX3_shareText_75 : decode cX3_shareText 75 = .ok (.iload 4, 2) := dk_21 4 (dk_at dksX3_shareText_3 4 rfl rfl)
theorem dX3_shareText_77 : decode cX3_shareText 77 = .ok (.invokevirtual 192, 3) := dk_182 0 192 (dk_at dksX3_shareText_3 6 rfl rfl)
theorem dX3_shareText_80 : decode cX3_shareText 80 = .ok (.aload_n 0, 1) := dk_42 (dk_at dksX3_shareText_3 9 rfl rfl)
theorem dX3_shareText_81 : decode cX3_shareText 81 = .ok (.bipush 64, 2) := dk_16 64 (dk_at dksX3_shareText_3 10 rfl rfl)
theorem dX3_shareText_83 : decode cX3_shareText 83 = .ok (.invokevirtual 189, 3) := dk_182 0 189 (dk_at dksX3_shareText_3 12 rfl rfl)
theorem dX3_shareText_86 : decode cX3_shareText 86 = .ok (.aload_n 0, 1) := dk_42 (dk_at dksX3_shareText_3 15 rfl rfl)
theorem dX3_shareText_87 : decode cX3_shareText 87 = .ok (.iload 5, 2) := dk_21 5 (dk_at dksX3_shareText_3 16 rfl rfl)
theorem dX3_shareText_89 : decode cX3_shareText 89 = .ok (.invokevirtual 192, 3) := dk_182 0 192 (dk_at dksX3_shareText_3 18 rfl rfl)
theorem dX3_shareText_92 : decode cX3_shareText 92 = .ok (.aload_n 0, 1) := dk_42 (dk_at dksX3_shareText_3 21 rfl rfl)
theorem dX3_shareText_93 : decode cX3_shareText 93 = .ok (.bipush 35, 2) := dk_16 35 (dk_at dksX3_shareText_3 22 rfl rfl)
theorem dX3_shareText_95 : decode cX3_shareText 95 = .ok (.invokevirtual 189, 3) := dk_182 0 189 (dk_at dksX3_shareText_4 0 rfl rfl)
theorem dX3_shareText_98 : decode cX3_shareText 98 = .ok (.aload_n 0, 1) := dk_42 (dk_at dksX3_shareText_4 3 rfl rfl)
theorem dX3_shareText_99 : decode cX3_shareText 99 = .ok (.bipush 48, 2) := dk_16 48 (dk_at dksX3_shareText_4 4 rfl rfl)
theorem dX3_shareText_101 : decode cX3_shareText 101 = .ok (.iload_n 2, 1) := dk_28 (dk_at dksX3_shareText_4 6 rfl rfl)
theorem dX3_shareText_102 : decode cX3_shareText 102 = .ok (.iload 4, 2) := dk_21 4 (dk_at dksX3_shareText_4 7 rfl rfl)
theorem dX3_shareText_104 : decode cX3_shareText 104 = .ok (.iload 5, 2) := dk_21 5 (dk_at dksX3_shareText_4 9 rfl rfl)
theorem dX3_shareText_106 : decode cX3_shareText 106 = .ok (.invokestatic 195, 3) := dk_184 0 195 (dk_at dksX3_shareText_4 11 rfl rfl)
theorem dX3_shareText_109 : decode cX3_shareText 109 = .ok (.iadd, 1) := dk_96 (dk_at dksX3_shareText_4 14 rfl rfl)
theorem dX3_shareText_110 : decode cX3_shareText 110 = .ok (.invokevirtual 189, 3) := dk_182 0 189 (dk_at dksX3_shareText_4 15 rfl rfl)
theorem dX3_shareText_113 : decode cX3_shareText 113 = .ok (.aload_n 0, 1) := dk_42 (dk_at dksX3_shareText_4 18 rfl rfl)
theorem dX3_shareText_114 : decode cX3_shareText 114 = .ok (.iload_n 3, 1) := dk_29 (dk_at dksX3_shareText_4 19 rfl rfl)
theorem dX3_shareText_115 : decode cX3_shareText 115 = .ok (.invokevirtual 198, 3) := dk_182 0 198 (dk_at dksX3_shareText_4 20 rfl rfl)
theorem dX3_shareText_118 : decode cX3_shareText 118 = .ok (.ireturn, 1) := dk_172 (dk_at dksX3_shareText_4 23 rfl rfl)
abbrev cX3_writesNumber : ByteArray := prog_27_method_62_code
def yX3_writesNumber : MethodName := ⟨RX3, "writesNumber", "(I)V"⟩
def dkwX3_writesNumber_1 : List UInt8 := [16, 48, 27, 28, 108, 16, 10, 112, 96, 182, 0, 189, 28, 16, 10, 108, 61, 167, 255, 234, 177]
abbrev dktX3_writesNumber_1 : List UInt8 := dkwX3_writesNumber_1 ++ []
def dkwX3_writesNumber_0 : List UInt8 := [4, 61, 27, 28, 108, 16, 10, 161, 0, 11, 28, 16, 10, 104, 61, 167, 255, 243, 28, 158, 0, 24, 42]
abbrev dktX3_writesNumber_0 : List UInt8 := dkwX3_writesNumber_0 ++ dktX3_writesNumber_1
theorem dksX3_writesNumber_0 : cX3_writesNumber.data.toList.drop 0 = dktX3_writesNumber_0 := by decide +kernel
theorem dksX3_writesNumber_1 : cX3_writesNumber.data.toList.drop 23 = dktX3_writesNumber_1 := dk_seg dksX3_writesNumber_0 23 rfl rfl
theorem dX3_writesNumber_0 : decode cX3_writesNumber 0 = .ok (.iconst 1, 1) := dk_4 (dk_at dksX3_writesNumber_0 0 rfl rfl)
theorem dX3_writesNumber_1 : decode cX3_writesNumber 1 = .ok (.istore_n 2, 1) := dk_61 (dk_at dksX3_writesNumber_0 1 rfl rfl)
theorem dX3_writesNumber_2 : decode cX3_writesNumber 2 = .ok (.iload_n 1, 1) := dk_27 (dk_at dksX3_writesNumber_0 2 rfl rfl)
theorem dX3_writesNumber_3 : decode cX3_writesNumber 3 = .ok (.iload_n 2, 1) := dk_28 (dk_at dksX3_writesNumber_0 3 rfl rfl)
theorem dX3_writesNumber_4 : decode cX3_writesNumber 4 = .ok (.idiv, 1) := dk_108 (dk_at dksX3_writesNumber_0 4 rfl rfl)
theorem dX3_writesNumber_5 : decode cX3_writesNumber 5 = .ok (.bipush 10, 2) := dk_16 10 (dk_at dksX3_writesNumber_0 5 rfl rfl)
theorem dX3_writesNumber_7 : decode cX3_writesNumber 7 = .ok (.if_icmp .lt 11, 3) := dk_161 0 11 (dk_at dksX3_writesNumber_0 7 rfl rfl)
theorem dX3_writesNumber_10 : decode cX3_writesNumber 10 = .ok (.iload_n 2, 1) := dk_28 (dk_at dksX3_writesNumber_0 10 rfl rfl)
theorem dX3_writesNumber_11 : decode cX3_writesNumber 11 = .ok (.bipush 10, 2) := dk_16 10 (dk_at dksX3_writesNumber_0 11 rfl rfl)
theorem dX3_writesNumber_13 : decode cX3_writesNumber 13 = .ok (.imul, 1) := dk_104 (dk_at dksX3_writesNumber_0 13 rfl rfl)
theorem dX3_writesNumber_14 : decode cX3_writesNumber 14 = .ok (.istore_n 2, 1) := dk_61 (dk_at dksX3_writesNumber_0 14 rfl rfl)
theorem dX3_writesNumber_15 : decode cX3_writesNumber 15 = .ok (.goto (-13), 3) := dk_167 255 243 (dk_at dksX3_writesNumber_0 15 rfl rfl)
theorem dX3_writesNumber_18 : decode cX3_writesNumber 18 = .ok (.iload_n 2, 1) := dk_28 (dk_at dksX3_writesNumber_0 18 rfl rfl)
theorem dX3_writesNumber_19 : decode cX3_writesNumber 19 = .ok (.ifCond .le 24, 3) := dk_158 0 24 (dk_at dksX3_writesNumber_0 19 rfl rfl)
theorem dX3_writesNumber_22 : decode cX3_writesNumber 22 = .ok (.aload_n 0, 1) := dk_42 (dk_at dksX3_writesNumber_0 22 rfl rfl)
theorem dX3_writesNumber_23 : decode cX3_writesNumber 23 = .ok (.bipush 48, 2) := dk_16 48 (dk_at dksX3_writesNumber_1 0 rfl rfl)
theorem dX3_writesNumber_25 : decode cX3_writesNumber 25 = .ok (.iload_n 1, 1) := dk_27 (dk_at dksX3_writesNumber_1 2 rfl rfl)
theorem dX3_writesNumber_26 : decode cX3_writesNumber 26 = .ok (.iload_n 2, 1) := dk_28 (dk_at dksX3_writesNumber_1 3 rfl rfl)
theorem dX3_writesNumber_27 : decode cX3_writesNumber 27 = .ok (.idiv, 1) := dk_108 (dk_at dksX3_writesNumber_1 4 rfl rfl)
theorem dX3_writesNumber_28 : decode cX3_writesNumber 28 = .ok (.bipush 10, 2) := dk_16 10 (dk_at dksX3_writesNumber_1 5 rfl rfl)
theorem dX3_writesNumber_30 : decode cX3_writesNumber 30 = .ok (.irem, 1) := dk_112 (dk_at dksX3_writesNumber_1 7 rfl rfl)
theorem dX3_writesNumber_31 : decode cX3_writesNumber 31 = .ok (.iadd, 1) := dk_96 (dk_at dksX3_writesNumber_1 8 rfl rfl)
theorem dX3_writesNumber_32 : decode cX3_writesNumber 32 = .ok (.invokevirtual 189, 3) := dk_182 0 189 (dk_at dksX3_writesNumber_1 9 rfl rfl)
theorem dX3_writesNumber_35 : decode cX3_writesNumber 35 = .ok (.iload_n 2, 1) := dk_28 (dk_at dksX3_writesNumber_1 12 rfl rfl)
theorem dX3_writesNumber_36 : decode cX3_writesNumber 36 = .ok (.bipush 10, 2) := dk_16 10 (dk_at dksX3_writesNumber_1 13 rfl rfl)
theorem dX3_writesNumber_38 : decode cX3_writesNumber 38 = .ok (.idiv, 1) := dk_108 (dk_at dksX3_writesNumber_1 15 rfl rfl)
theorem dX3_writesNumber_39 : decode cX3_writesNumber 39 = .ok (.istore_n 2, 1) := dk_61 (dk_at dksX3_writesNumber_1 16 rfl rfl)
theorem dX3_writesNumber_40 : decode cX3_writesNumber 40 = .ok (.goto (-22), 3) := dk_167 255 234 (dk_at dksX3_writesNumber_1 17 rfl rfl)
theorem dX3_writesNumber_43 : decode cX3_writesNumber 43 = .ok (.return_, 1) := dk_177 (dk_at dksX3_writesNumber_1 20 rfl rfl)
abbrev cX3_writes : ByteArray := prog_27_method_61_code
def yX3_writes : MethodName := ⟨RX3, "writes", "(I)V"⟩
def dkwX3_writes_0 : List UInt8 := [42, 180, 0, 31, 42, 180, 0, 186, 27, 146, 85, 42, 89, 180, 0, 186, 4, 96, 181, 0, 186, 177]
abbrev dktX3_writes_0 : List UInt8 := dkwX3_writes_0 ++ []
theorem dksX3_writes_0 : cX3_writes.data.toList.drop 0 = dktX3_writes_0 := by decide +kernel
theorem dX3_writes_0 : decode cX3_writes 0 = .ok (.aload_n 0, 1) := dk_42 (dk_at dksX3_writes_0 0 rfl rfl)
theorem dX3_writes_1 : decode cX3_writes 1 = .ok (.getfield 31, 3) := dk_180 0 31 (dk_at dksX3_writes_0 1 rfl rfl)
theorem dX3_writes_4 : decode cX3_writes 4 = .ok (.aload_n 0, 1) := dk_42 (dk_at dksX3_writes_0 4 rfl rfl)
theorem dX3_writes_5 : decode cX3_writes 5 = .ok (.getfield 186, 3) := dk_180 0 186 (dk_at dksX3_writes_0 5 rfl rfl)
theorem dX3_writes_8 : decode cX3_writes 8 = .ok (.iload_n 1, 1) := dk_27 (dk_at dksX3_writes_0 8 rfl rfl)
theorem dX3_writes_9 : decode cX3_writes 9 = .ok (.i2c, 1) := dk_146 (dk_at dksX3_writes_0 9 rfl rfl)
theorem dX3_writes_10 : decode cX3_writes 10 = .ok (.castore, 1) := dk_85 (dk_at dksX3_writes_0 10 rfl rfl)
theorem dX3_writes_11 : decode cX3_writes 11 = .ok (.aload_n 0, 1) := dk_42 (dk_at dksX3_writes_0 11 rfl rfl)
theorem dX3_writes_12 : decode cX3_writes 12 = .ok (.dup, 1) := dk_89 (dk_at dksX3_writes_0 12 rfl rfl)
theorem dX3_writes_13 : decode cX3_writes 13 = .ok (.getfield 186, 3) := dk_180 0 186 (dk_at dksX3_writes_0 13 rfl rfl)
theorem dX3_writes_16 : decode cX3_writes 16 = .ok (.iconst 1, 1) := dk_4 (dk_at dksX3_writes_0 16 rfl rfl)
theorem dX3_writes_17 : decode cX3_writes 17 = .ok (.iadd, 1) := dk_96 (dk_at dksX3_writes_0 17 rfl rfl)
theorem dX3_writes_18 : decode cX3_writes 18 = .ok (.putfield 186, 3) := dk_181 0 186 (dk_at dksX3_writes_0 18 rfl rfl)
theorem dX3_writes_21 : decode cX3_writes 21 = .ok (.return_, 1) := dk_177 (dk_at dksX3_writes_0 21 rfl rfl)
abbrev cX3_lastDigit : ByteArray := prog_27_method_63_code
def yX3_lastDigit : MethodName := ⟨RX3, "lastDigit", "(III)I"⟩
def dkwX3_lastDigit_0 : List UInt8 := [16, 7, 26, 104, 6, 27, 104, 96, 28, 96, 16, 10, 112, 172]
abbrev dktX3_lastDigit_0 : List UInt8 := dkwX3_lastDigit_0 ++ []
theorem dksX3_lastDigit_0 : cX3_lastDigit.data.toList.drop 0 = dktX3_lastDigit_0 := by decide +kernel
theorem dX3_lastDigit_0 : decode cX3_lastDigit 0 = .ok (.bipush 7, 2) := dk_16 7 (dk_at dksX3_lastDigit_0 0 rfl rfl)
theorem dX3_lastDigit_2 : decode cX3_lastDigit 2 = .ok (.iload_n 0, 1) := dk_26 (dk_at dksX3_lastDigit_0 2 rfl rfl)
theorem dX3_lastDigit_3 : decode cX3_lastDigit 3 = .ok (.imul, 1) := dk_104 (dk_at dksX3_lastDigit_0 3 rfl rfl)
theorem dX3_lastDigit_4 : decode cX3_lastDigit 4 = .ok (.iconst 3, 1) := dk_6 (dk_at dksX3_lastDigit_0 4 rfl rfl)
theorem dX3_lastDigit_5 : decode cX3_lastDigit 5 = .ok (.iload_n 1, 1) := dk_27 (dk_at dksX3_lastDigit_0 5 rfl rfl)
theorem dX3_lastDigit_6 : decode cX3_lastDigit 6 = .ok (.imul, 1) := dk_104 (dk_at dksX3_lastDigit_0 6 rfl rfl)
theorem dX3_lastDigit_7 : decode cX3_lastDigit 7 = .ok (.iadd, 1) := dk_96 (dk_at dksX3_lastDigit_0 7 rfl rfl)
theorem dX3_lastDigit_8 : decode cX3_lastDigit 8 = .ok (.iload_n 2, 1) := dk_28 (dk_at dksX3_lastDigit_0 8 rfl rfl)
theorem dX3_lastDigit_9 : decode cX3_lastDigit 9 = .ok (.iadd, 1) := dk_96 (dk_at dksX3_lastDigit_0 9 rfl rfl)
theorem dX3_lastDigit_10 : decode cX3_lastDigit 10 = .ok (.bipush 10, 2) := dk_16 10 (dk_at dksX3_lastDigit_0 10 rfl rfl)
theorem dX3_lastDigit_12 : decode cX3_lastDigit 12 = .ok (.irem, 1) := dk_112 (dk_at dksX3_lastDigit_0 12 rfl rfl)
theorem dX3_lastDigit_13 : decode cX3_lastDigit 13 = .ok (.ireturn, 1) := dk_172 (dk_at dksX3_lastDigit_0 13 rfl rfl)
abbrev cX3_paperAt : ByteArray := prog_27_method_64_code
def yX3_paperAt : MethodName := ⟨RX3, "paperAt", "(I)I"⟩
def dkwX3_paperAt_1 : List UInt8 := [42, 42, 180, 0, 31, 27, 52, 182, 0, 69, 167, 0, 8, 42, 5, 182, 0, 80, 172]
abbrev dktX3_paperAt_1 : List UInt8 := dkwX3_paperAt_1 ++ []
def dkwX3_paperAt_0 : List UInt8 := [27, 2, 160, 0, 14, 42, 42, 180, 0, 186, 182, 0, 69, 167, 0, 29, 27, 42, 180, 0, 186, 162, 0, 16]
abbrev dktX3_paperAt_0 : List UInt8 := dkwX3_paperAt_0 ++ dktX3_paperAt_1
theorem dksX3_paperAt_0 : cX3_paperAt.data.toList.drop 0 = dktX3_paperAt_0 := by decide +kernel
theorem dksX3_paperAt_1 : cX3_paperAt.data.toList.drop 24 = dktX3_paperAt_1 := dk_seg dksX3_paperAt_0 24 rfl rfl
theorem dX3_paperAt_0 : decode cX3_paperAt 0 = .ok (.iload_n 1, 1) := dk_27 (dk_at dksX3_paperAt_0 0 rfl rfl)
theorem dX3_paperAt_1 : decode cX3_paperAt 1 = .ok (.iconst (-1), 1) := dk_2 (dk_at dksX3_paperAt_0 1 rfl rfl)
theorem dX3_paperAt_2 : decode cX3_paperAt 2 = .ok (.if_icmp .ne 14, 3) := dk_160 0 14 (dk_at dksX3_paperAt_0 2 rfl rfl)
theorem dX3_paperAt_5 : decode cX3_paperAt 5 = .ok (.aload_n 0, 1) := dk_42 (dk_at dksX3_paperAt_0 5 rfl rfl)
theorem dX3_paperAt_6 : decode cX3_paperAt 6 = .ok (.aload_n 0, 1) := dk_42 (dk_at dksX3_paperAt_0 6 rfl rfl)
theorem dX3_paperAt_7 : decode cX3_paperAt 7 = .ok (.getfield 186, 3) := dk_180 0 186 (dk_at dksX3_paperAt_0 7 rfl rfl)
theorem dX3_paperAt_10 : decode cX3_paperAt 10 = .ok (.invokevirtual 69, 3) := dk_182 0 69 (dk_at dksX3_paperAt_0 10 rfl rfl)
theorem dX3_paperAt_13 : decode cX3_paperAt 13 = .ok (.goto 29, 3) := dk_167 0 29 (dk_at dksX3_paperAt_0 13 rfl rfl)
theorem dX3_paperAt_16 : decode cX3_paperAt 16 = .ok (.iload_n 1, 1) := dk_27 (dk_at dksX3_paperAt_0 16 rfl rfl)
theorem dX3_paperAt_17 : decode cX3_paperAt 17 = .ok (.aload_n 0, 1) := dk_42 (dk_at dksX3_paperAt_0 17 rfl rfl)
theorem dX3_paperAt_18 : decode cX3_paperAt 18 = .ok (.getfield 186, 3) := dk_180 0 186 (dk_at dksX3_paperAt_0 18 rfl rfl)
theorem dX3_paperAt_21 : decode cX3_paperAt 21 = .ok (.if_icmp .ge 16, 3) := dk_162 0 16 (dk_at dksX3_paperAt_0 21 rfl rfl)
theorem dX3_paperAt_24 : decode cX3_paperAt 24 = .ok (.aload_n 0, 1) := dk_42 (dk_at dksX3_paperAt_1 0 rfl rfl)
theorem dX3_paperAt_25 : decode cX3_paperAt 25 = .ok (.aload_n 0, 1) := dk_42 (dk_at dksX3_paperAt_1 1 rfl rfl)
theorem dX3_paperAt_26 : decode cX3_paperAt 26 = .ok (.getfield 31, 3) := dk_180 0 31 (dk_at dksX3_paperAt_1 2 rfl rfl)
theorem dX3_paperAt_29 : decode cX3_paperAt 29 = .ok (.iload_n 1, 1) := dk_27 (dk_at dksX3_paperAt_1 5 rfl rfl)
theorem dX3_paperAt_30 : decode cX3_paperAt 30 = .ok (.caload, 1) := dk_52 (dk_at dksX3_paperAt_1 6 rfl rfl)
theorem dX3_paperAt_31 : decode cX3_paperAt 31 = .ok (.invokevirtual 69, 3) := dk_182 0 69 (dk_at dksX3_paperAt_1 7 rfl rfl)
theorem dX3_paperAt_34 : decode cX3_paperAt 34 = .ok (.goto 8, 3) := dk_167 0 8 (dk_at dksX3_paperAt_1 10 rfl rfl)
theorem dX3_paperAt_37 : decode cX3_paperAt 37 = .ok (.aload_n 0, 1) := dk_42 (dk_at dksX3_paperAt_1 13 rfl rfl)
theorem dX3_paperAt_38 : decode cX3_paperAt 38 = .ok (.iconst 2, 1) := dk_5 (dk_at dksX3_paperAt_1 14 rfl rfl)
theorem dX3_paperAt_39 : decode cX3_paperAt 39 = .ok (.invokevirtual 80, 3) := dk_182 0 80 (dk_at dksX3_paperAt_1 15 rfl rfl)
theorem dX3_paperAt_42 : decode cX3_paperAt 42 = .ok (.ireturn, 1) := dk_172 (dk_at dksX3_paperAt_1 18 rfl rfl)
abbrev cX3_append : ByteArray := prog_27_method_66_code
def yX3_append : MethodName := ⟨RX3, "append", "(I)I"⟩
def dkwX3_append_5 : List UInt8 := [181, 0, 201, 132, 3, 248, 167, 255, 213, 42, 42, 180, 0, 201, 182, 0, 69, 172]
abbrev dktX3_append_5 : List UInt8 := dkwX3_append_5 ++ []
def dkwX3_append_4 : List UInt8 := [153, 0, 25, 42, 180, 0, 35, 42, 180, 0, 201, 21, 4, 146, 85, 42, 89, 180, 0, 201, 4, 96]
abbrev dktX3_append_4 : List UInt8 := dkwX3_append_4 ++ dktX3_append_5
def dkwX3_append_3 : List UInt8 := [42, 5, 182, 0, 80, 172, 16, 24, 62, 29, 155, 0, 45, 27, 29, 124, 17, 0, 255, 126, 54, 4, 21, 4]
abbrev dktX3_append_3 : List UInt8 := dkwX3_append_3 ++ dktX3_append_4
def dkwX3_append_2 : List UInt8 := [4, 167, 0, 4, 3, 96, 61, 132, 3, 248, 167, 255, 204, 42, 180, 0, 201, 28, 96, 16, 40, 164, 0, 9]
abbrev dktX3_append_2 : List UInt8 := dkwX3_append_2 ++ dktX3_append_3
def dkwX3_append_1 : List UInt8 := [21, 4, 16, 33, 16, 126, 184, 0, 45, 154, 0, 9, 42, 4, 182, 0, 80, 172, 28, 21, 4, 153, 0, 7]
abbrev dktX3_append_1 : List UInt8 := dkwX3_append_1 ++ dktX3_append_2
def dkwX3_append_0 : List UInt8 := [3, 61, 16, 24, 62, 29, 155, 0, 54, 27, 29, 124, 17, 0, 255, 126, 54, 4, 21, 4, 153, 0, 21]
abbrev dktX3_append_0 : List UInt8 := dkwX3_append_0 ++ dktX3_append_1
theorem dksX3_append_0 : cX3_append.data.toList.drop 0 = dktX3_append_0 := by decide +kernel
theorem dksX3_append_1 : cX3_append.data.toList.drop 23 = dktX3_append_1 := dk_seg dksX3_append_0 23 rfl rfl
theorem dksX3_append_2 : cX3_append.data.toList.drop 47 = dktX3_append_2 := dk_seg dksX3_append_1 24 rfl rfl
theorem dksX3_append_3 : cX3_append.data.toList.drop 71 = dktX3_append_3 := dk_seg dksX3_append_2 24 rfl rfl
theorem dksX3_append_4 : cX3_append.data.toList.drop 95 = dktX3_append_4 := dk_seg dksX3_append_3 24 rfl rfl
theorem dksX3_append_5 : cX3_append.data.toList.drop 117 = dktX3_append_5 := dk_seg dksX3_append_4 22 rfl rfl
theorem dX3_append_0 : decode cX3_append 0 = .ok (.iconst 0, 1) := dk_3 (dk_at dksX3_append_0 0 rfl rfl)
theorem dX3_append_1 : decode cX3_append 1 = .ok (.istore_n 2, 1) := dk_61 (dk_at dksX3_append_0 1 rfl rfl)
theorem dX3_append_2 : decode cX3_append 2 = .ok (.bipush 24, 2) := dk_16 24 (dk_at dksX3_append_0 2 rfl rfl)
theorem dX3_append_4 : decode cX3_append 4 = .ok (.istore_n 3, 1) := dk_62 (dk_at dksX3_append_0 4 rfl rfl)
theorem dX3_append_5 : decode cX3_append 5 = .ok (.iload_n 3, 1) := dk_29 (dk_at dksX3_append_0 5 rfl rfl)
theorem dX3_append_6 : decode cX3_append 6 = .ok (.ifCond .lt 54, 3) := dk_155 0 54 (dk_at dksX3_append_0 6 rfl rfl)
theorem dX3_append_9 : decode cX3_append 9 = .ok (.iload_n 1, 1) := dk_27 (dk_at dksX3_append_0 9 rfl rfl)
theorem dX3_append_10 : decode cX3_append 10 = .ok (.iload_n 3, 1) := dk_29 (dk_at dksX3_append_0 10 rfl rfl)
theorem dX3_append_11 : decode cX3_append 11 = .ok (.iushr, 1) := dk_124 (dk_at dksX3_append_0 11 rfl rfl)
theorem dX3_append_12 : decode cX3_append 12 = .ok (.sipush 255, 3) := dk_17 0 255 (dk_at dksX3_append_0 12 rfl rfl)
theorem dX3_append_15 : decode cX3_append 15 = .ok (.iand, 1) := dk_126 (dk_at dksX3_append_0 15 rfl rfl)
theorem dX3_append_16 : decode cX3_append 16 = .ok (.istore 4, 2) := dk_54 4 (dk_at dksX3_append_0 16 rfl rfl)
theorem dX3_append_18 : decode cX3_append 18 = .ok (.iload 4, 2) := dk_21 4 (dk_at dksX3_append_0 18 rfl rfl)
theorem dX3_append_20 : decode cX3_append 20 = .ok (.ifCond .eq 21, 3) := dk_153 0 21 (dk_at dksX3_append_0 20 rfl rfl)
theorem dX3_append_23 : decode cX3_append 23 = .ok (.iload 4, 2) := dk_21 4 (dk_at dksX3_append_1 0 rfl rfl)
theorem dX3_append_25 : decode cX3_append 25 = .ok (.bipush 33, 2) := dk_16 33 (dk_at dksX3_append_1 2 rfl rfl)
theorem dX3_append_27 : decode cX3_append 27 = .ok (.bipush 126, 2) := dk_16 126 (dk_at dksX3_append_1 4 rfl rfl)
theorem dX3_append_29 : decode cX3_append 29 = .ok (.invokestatic 45, 3) := dk_184 0 45 (dk_at dksX3_append_1 6 rfl rfl)
theorem dX3_append_32 : decode cX3_append 32 = .ok (.ifCond .ne 9, 3) := dk_154 0 9 (dk_at dksX3_append_1 9 rfl rfl)
theorem dX3_append_35 : decode cX3_append 35 = .ok (.aload_n 0, 1) := dk_42 (dk_at dksX3_append_1 12 rfl rfl)
theorem dX3_append_36 : decode cX3_append 36 = .ok (.iconst 1, 1) := dk_4 (dk_at dksX3_append_1 13 rfl rfl)
theorem dX3_append_37 : decode cX3_append 37 = .ok (.invokevirtual 80, 3) := dk_182 0 80 (dk_at dksX3_append_1 14 rfl rfl)
theorem dX3_append_40 : decode cX3_append 40 = .ok (.ireturn, 1) := dk_172 (dk_at dksX3_append_1 17 rfl rfl)
theorem dX3_append_41 : decode cX3_append 41 = .ok (.iload_n 2, 1) := dk_28 (dk_at dksX3_append_1 18 rfl rfl)
theorem dX3_append_42 : decode cX3_append 42 = .ok (.iload 4, 2) := dk_21 4 (dk_at dksX3_append_1 19 rfl rfl)
theorem dX3_append_44 : decode cX3_append 44 = .ok (.ifCond .eq 7, 3) := dk_153 0 7 (dk_at dksX3_append_1 21 rfl rfl)
theorem dX3_append_47 : decode cX3_append 47 = .ok (.iconst 1, 1) := dk_4 (dk_at dksX3_append_2 0 rfl rfl)
theorem dX3_append_48 : decode cX3_append 48 = .ok (.goto 4, 3) := dk_167 0 4 (dk_at dksX3_append_2 1 rfl rfl)
theorem dX3_append_51 : decode cX3_append 51 = .ok (.iconst 0, 1) := dk_3 (dk_at dksX3_append_2 4 rfl rfl)
theorem dX3_append_52 : decode cX3_append 52 = .ok (.iadd, 1) := dk_96 (dk_at dksX3_append_2 5 rfl rfl)
theorem dX3_append_53 : decode cX3_append 53 = .ok (.istore_n 2, 1) := dk_61 (dk_at dksX3_append_2 6 rfl rfl)
theorem dX3_append_54 : decode cX3_append 54 = .ok (.iinc 3 (-8), 3) := dk_132 3 248 (dk_at dksX3_append_2 7 rfl rfl)
theorem dX3_append_57 : decode cX3_append 57 = .ok (.goto (-52), 3) := dk_167 255 204 (dk_at dksX3_append_2 10 rfl rfl)
theorem dX3_append_60 : decode cX3_append 60 = .ok (.aload_n 0, 1) := dk_42 (dk_at dksX3_append_2 13 rfl rfl)
theorem dX3_append_61 : decode cX3_append 61 = .ok (.getfield 201, 3) := dk_180 0 201 (dk_at dksX3_append_2 14 rfl rfl)
theorem dX3_append_64 : decode cX3_append 64 = .ok (.iload_n 2, 1) := dk_28 (dk_at dksX3_append_2 17 rfl rfl)
theorem dX3_append_65 : decode cX3_append 65 = .ok (.iadd, 1) := dk_96 (dk_at dksX3_append_2 18 rfl rfl)
theorem dX3_append_66 : decode cX3_append 66 = .ok (.bipush 40, 2) := dk_16 40 (dk_at dksX3_append_2 19 rfl rfl)
theorem dX3_append_68 : decode cX3_append 68 = .ok (.if_icmp .le 9, 3) := dk_164 0 9 (dk_at dksX3_append_2 21 rfl rfl)
theorem dX3_append_71 : decode cX3_append 71 = .ok (.aload_n 0, 1) := dk_42 (dk_at dksX3_append_3 0 rfl rfl)
theorem dX3_append_72 : decode cX3_append 72 = .ok (.iconst 2, 1) := dk_5 (dk_at dksX3_append_3 1 rfl rfl)
theorem dX3_append_73 : decode cX3_append 73 = .ok (.invokevirtual 80, 3) := dk_182 0 80 (dk_at dksX3_append_3 2 rfl rfl)
theorem dX3_append_76 : decode cX3_append 76 = .ok (.ireturn, 1) := dk_172 (dk_at dksX3_append_3 5 rfl rfl)
theorem dX3_append_77 : decode cX3_append 77 = .ok (.bipush 24, 2) := dk_16 24 (dk_at dksX3_append_3 6 rfl rfl)
theorem dX3_append_79 : decode cX3_append 79 = .ok (.istore_n 3, 1) := dk_62 (dk_at dksX3_append_3 8 rfl rfl)
theorem dX3_append_80 : decode cX3_append 80 = .ok (.iload_n 3, 1) := dk_29 (dk_at dksX3_append_3 9 rfl rfl)
theorem dX3_append_81 : decode cX3_append 81 = .ok (.ifCond .lt 45, 3) := dk_155 0 45 (dk_at dksX3_append_3 10 rfl rfl)
theorem dX3_append_84 : decode cX3_append 84 = .ok (.iload_n 1, 1) := dk_27 (dk_at dksX3_append_3 13 rfl rfl)
theorem dX3_append_85 : decode cX3_append 85 = .ok (.iload_n 3, 1) := dk_29 (dk_at dksX3_append_3 14 rfl rfl)
theorem dX3_append_86 : decode cX3_append 86 = .ok (.iushr, 1) := dk_124 (dk_at dksX3_append_3 15 rfl rfl)
theorem dX3_append_87 : decode cX3_append 87 = .ok (.sipush 255, 3) := dk_17 0 255 (dk_at dksX3_append_3 16 rfl rfl)
theorem dX3_append_90 : decode cX3_append 90 = .ok (.iand, 1) := dk_126 (dk_at dksX3_append_3 19 rfl rfl)
theorem dX3_append_91 : decode cX3_append 91 = .ok (.istore 4, 2) := dk_54 4 (dk_at dksX3_append_3 20 rfl rfl)
theorem dX3_append_93 : decode cX3_append 93 = .ok (.iload 4, 2) := dk_21 4 (dk_at dksX3_append_3 22 rfl rfl)
theorem dX3_append_95 : decode cX3_append 95 = .ok (.ifCond .eq 25, 3) := dk_153 0 25 (dk_at dksX3_append_4 0 rfl rfl)
theorem dX3_append_98 : decode cX3_append 98 = .ok (.aload_n 0, 1) := dk_42 (dk_at dksX3_append_4 3 rfl rfl)
theorem dX3_append_99 : decode cX3_append 99 = .ok (.getfield 35, 3) := dk_180 0 35 (dk_at dksX3_append_4 4 rfl rfl)
theorem dX3_append_102 : decode cX3_append 102 = .ok (.aload_n 0, 1) := dk_42 (dk_at dksX3_append_4 7 rfl rfl)
theorem dX3_append_103 : decode cX3_append 103 = .ok (.getfield 201, 3) := dk_180 0 201 (dk_at dksX3_append_4 8 rfl rfl)
theorem dX3_append_106 : decode cX3_append 106 = .ok (.iload 4, 2) := dk_21 4 (dk_at dksX3_append_4 11 rfl rfl)
theorem dX3_append_108 : decode cX3_append 108 = .ok (.i2c, 1) := dk_146 (dk_at dksX3_append_4 13 rfl rfl)
theorem dX3_append_109 : decode cX3_append 109 = .ok (.castore, 1) := dk_85 (dk_at dksX3_append_4 14 rfl rfl)
theorem dX3_append_110 : decode cX3_append 110 = .ok (.aload_n 0, 1) := dk_42 (dk_at dksX3_append_4 15 rfl rfl)
theorem dX3_append_111 : decode cX3_append 111 = .ok (.dup, 1) := dk_89 (dk_at dksX3_append_4 16 rfl rfl)
theorem dX3_append_112 : decode cX3_append 112 = .ok (.getfield 201, 3) := dk_180 0 201 (dk_at dksX3_append_4 17 rfl rfl)
theorem dX3_append_115 : decode cX3_append 115 = .ok (.iconst 1, 1) := dk_4 (dk_at dksX3_append_4 20 rfl rfl)
theorem dX3_append_116 : decode cX3_append 116 = .ok (.iadd, 1) := dk_96 (dk_at dksX3_append_4 21 rfl rfl)
theorem dX3_append_117 : decode cX3_append 117 = .ok (.putfield 201, 3) := dk_181 0 201 (dk_at dksX3_append_5 0 rfl rfl)
theorem dX3_append_120 : decode cX3_append 120 = .ok (.iinc 3 (-8), 3) := dk_132 3 248 (dk_at dksX3_append_5 3 rfl rfl)
theorem dX3_append_123 : decode cX3_append 123 = .ok (.goto (-43), 3) := dk_167 255 213 (dk_at dksX3_append_5 6 rfl rfl)
theorem dX3_append_126 : decode cX3_append 126 = .ok (.aload_n 0, 1) := dk_42 (dk_at dksX3_append_5 9 rfl rfl)
theorem dX3_append_127 : decode cX3_append 127 = .ok (.aload_n 0, 1) := dk_42 (dk_at dksX3_append_5 10 rfl rfl)
theorem dX3_append_128 : decode cX3_append 128 = .ok (.getfield 201, 3) := dk_180 0 201 (dk_at dksX3_append_5 11 rfl rfl)
theorem dX3_append_131 : decode cX3_append 131 = .ok (.invokevirtual 69, 3) := dk_182 0 69 (dk_at dksX3_append_5 14 rfl rfl)
theorem dX3_append_134 : decode cX3_append 134 = .ok (.ireturn, 1) := dk_172 (dk_at dksX3_append_5 17 rfl rfl)
abbrev cX3_importShare : ByteArray := prog_27_method_71_code
def yX3_importShare : MethodName := ⟨RX3, "importShare", "(I)I"⟩
def dkwX3_importShare_3 : List UInt8 := [180, 0, 225, 182, 0, 103, 42, 42, 180, 0, 216, 182, 0, 69, 172]
abbrev dktX3_importShare_3 : List UInt8 := dkwX3_importShare_3 ++ []
def dkwX3_importShare_2 : List UInt8 := [181, 0, 201, 29, 154, 0, 9, 42, 6, 182, 0, 80, 172, 42, 27, 42, 180, 0, 216, 42, 180, 0, 222, 42]
abbrev dktX3_importShare_2 : List UInt8 := dkwX3_importShare_2 ++ dktX3_importShare_3
def dkwX3_importShare_1 : List UInt8 := [182, 0, 228, 62, 42, 29, 153, 0, 7, 2, 167, 0, 7, 42, 180, 0, 204, 181, 0, 38, 42, 3]
abbrev dktX3_importShare_1 : List UInt8 := dkwX3_importShare_1 ++ dktX3_importShare_2
def dkwX3_importShare_0 : List UInt8 := [42, 27, 182, 0, 121, 61, 28, 153, 0, 9, 42, 28, 182, 0, 80, 172, 42, 3, 181, 0, 204, 42]
abbrev dktX3_importShare_0 : List UInt8 := dkwX3_importShare_0 ++ dktX3_importShare_1
theorem dksX3_importShare_0 : cX3_importShare.data.toList.drop 0 = dktX3_importShare_0 := by decide +kernel
theorem dksX3_importShare_1 : cX3_importShare.data.toList.drop 22 = dktX3_importShare_1 := dk_seg dksX3_importShare_0 22 rfl rfl
theorem dksX3_importShare_2 : cX3_importShare.data.toList.drop 44 = dktX3_importShare_2 := dk_seg dksX3_importShare_1 22 rfl rfl
theorem dksX3_importShare_3 : cX3_importShare.data.toList.drop 68 = dktX3_importShare_3 := dk_seg dksX3_importShare_2 24 rfl rfl
theorem dX3_importShare_0 : decode cX3_importShare 0 = .ok (.aload_n 0, 1) := dk_42 (dk_at dksX3_importShare_0 0 rfl rfl)
theorem dX3_importShare_1 : decode cX3_importShare 1 = .ok (.iload_n 1, 1) := dk_27 (dk_at dksX3_importShare_0 1 rfl rfl)
theorem dX3_importShare_2 : decode cX3_importShare 2 = .ok (.invokevirtual 121, 3) := dk_182 0 121 (dk_at dksX3_importShare_0 2 rfl rfl)
theorem dX3_importShare_5 : decode cX3_importShare 5 = .ok (.istore_n 2, 1) := dk_61 (dk_at dksX3_importShare_0 5 rfl rfl)
theorem dX3_importShare_6 : decode cX3_importShare 6 = .ok (.iload_n 2, 1) := dk_28 (dk_at dksX3_importShare_0 6 rfl rfl)
theorem dX3_importShare_7 : decode cX3_importShare 7 = .ok (.ifCond .eq 9, 3) := dk_153 0 9 (dk_at dksX3_importShare_0 7 rfl rfl)
theorem dX3_importShare_10 : decode cX3_importShare 10 = .ok (.aload_n 0, 1) := dk_42 (dk_at dksX3_importShare_0 10 rfl rfl)
theorem dX3_importShare_11 : decode cX3_importShare 11 = .ok (.iload_n 2, 1) := dk_28 (dk_at dksX3_importShare_0 11 rfl rfl)
theorem dX3_importShare_12 : decode cX3_importShare 12 = .ok (.invokevirtual 80, 3) := dk_182 0 80 (dk_at dksX3_importShare_0 12 rfl rfl)
theorem dX3_importShare_15 : decode cX3_importShare 15 = .ok (.ireturn, 1) := dk_172 (dk_at dksX3_importShare_0 15 rfl rfl)
theorem dX3_importShare_16 : decode cX3_importShare 16 = .ok (.aload_n 0, 1) := dk_42 (dk_at dksX3_importShare_0 16 rfl rfl)
theorem dX3_importShare_17 : decode cX3_importShare 17 = .ok (.iconst 0, 1) := dk_3 (dk_at dksX3_importShare_0 17 rfl rfl)
theorem dX3_importShare_18 : decode cX3_importShare 18 = .ok (.putfield 204, 3) := dk_181 0 204 (dk_at dksX3_importShare_0 18 rfl rfl)
theorem dX3_importShare_21 : decode cX3_importShare 21 = .ok (.aload_n 0, 1) := dk_42 (dk_at dksX3_importShare_0 21 rfl rfl)
theorem dX3_importShare_22 : decode cX3_importShare 22 = .ok (.invokevirtual 228, 3) := dk_182 0 228 (dk_at dksX3_importShare_1 0 rfl rfl)
theorem dX3_importShare_25 : decode cX3_importShare 25 = .ok (.istore_n 3, 1) := dk_62 (dk_at dksX3_importShare_1 3 rfl rfl)
theorem dX3_importShare_26 : decode cX3_importShare 26 = .ok (.aload_n 0, 1) := dk_42 (dk_at dksX3_importShare_1 4 rfl rfl)
theorem dX3_importShare_27 : decode cX3_importShare 27 = .ok (.iload_n 3, 1) := dk_29 (dk_at dksX3_importShare_1 5 rfl rfl)
theorem dX3_importShare_28 : decode cX3_importShare 28 = .ok (.ifCond .eq 7, 3) := dk_153 0 7 (dk_at dksX3_importShare_1 6 rfl rfl)
theorem dX3_importShare_31 : decode cX3_importShare 31 = .ok (.iconst (-1), 1) := dk_2 (dk_at dksX3_importShare_1 9 rfl rfl)
theorem dX3_importShare_32 : decode cX3_importShare 32 = .ok (.goto 7, 3) := dk_167 0 7 (dk_at dksX3_importShare_1 10 rfl rfl)
theorem dX3_importShare_35 : decode cX3_importShare 35 = .ok (.aload_n 0, 1) := dk_42 (dk_at dksX3_importShare_1 13 rfl rfl)
theorem dX3_importShare_36 : decode cX3_importShare 36 = .ok (.getfield 204, 3) := dk_180 0 204 (dk_at dksX3_importShare_1 14 rfl rfl)
theorem dX3_importShare_39 : decode cX3_importShare 39 = .ok (.putfield 38, 3) := dk_181 0 38 (dk_at dksX3_importShare_1 17 rfl rfl)
theorem dX3_importShare_42 : decode cX3_importShare 42 = .ok (.aload_n 0, 1) := dk_42 (dk_at dksX3_importShare_1 20 rfl rfl)
theorem dX3_importShare_43 : decode cX3_importShare 43 = .ok (.iconst 0, 1) := dk_3 (dk_at dksX3_importShare_1 21 rfl rfl)
theorem dX3_importShare_44 : decode cX3_importShare 44 = .ok (.putfield 201, 3) := dk_181 0 201 (dk_at dksX3_importShare_2 0 rfl rfl)
theorem dX3_importShare_47 : decode cX3_importShare 47 = .ok (.iload_n 3, 1) := dk_29 (dk_at dksX3_importShare_2 3 rfl rfl)
theorem dX3_importShare_48 : decode cX3_importShare 48 = .ok (.ifCond .ne 9, 3) := dk_154 0 9 (dk_at dksX3_importShare_2 4 rfl rfl)
theorem dX3_importShare_51 : decode cX3_importShare 51 = .ok (.aload_n 0, 1) := dk_42 (dk_at dksX3_importShare_2 7 rfl rfl)
theorem dX3_importShare_52 : decode cX3_importShare 52 = .ok (.iconst 3, 1) := dk_6 (dk_at dksX3_importShare_2 8 rfl rfl)
theorem dX3_importShare_53 : decode cX3_importShare 53 = .ok (.invokevirtual 80, 3) := dk_182 0 80 (dk_at dksX3_importShare_2 9 rfl rfl)
theorem dX3_importShare_56 : decode cX3_importShare 56 = .ok (.ireturn, 1) := dk_172 (dk_at dksX3_importShare_2 12 rfl rfl)
theorem dX3_importShare_57 : decode cX3_importShare 57 = .ok (.aload_n 0, 1) := dk_42 (dk_at dksX3_importShare_2 13 rfl rfl)
theorem dX3_importShare_58 : decode cX3_importShare 58 = .ok (.iload_n 1, 1) := dk_27 (dk_at dksX3_importShare_2 14 rfl rfl)
theorem dX3_importShare_59 : decode cX3_importShare 59 = .ok (.aload_n 0, 1) := dk_42 (dk_at dksX3_importShare_2 15 rfl rfl)
theorem dX3_importShare_60 : decode cX3_importShare 60 = .ok (.getfield 216, 3) := dk_180 0 216 (dk_at dksX3_importShare_2 16 rfl rfl)
theorem dX3_importShare_63 : decode cX3_importShare 63 = .ok (.aload_n 0, 1) := dk_42 (dk_at dksX3_importShare_2 19 rfl rfl)
theorem dX3_importShare_64 : decode cX3_importShare 64 = .ok (.getfield 222, 3) := dk_180 0 222 (dk_at dksX3_importShare_2 20 rfl rfl)
theorem dX3_importShare_67 : decode cX3_importShare 67 = .ok (.aload_n 0, 1) := dk_42 (dk_at dksX3_importShare_2 23 rfl rfl)
theorem dX3_importShare_68 : decode cX3_importShare 68 = .ok (.getfield 225, 3) := dk_180 0 225 (dk_at dksX3_importShare_3 0 rfl rfl)
theorem dX3_importShare_71 : decode cX3_importShare 71 = .ok (.invokevirtual 103, 3) := dk_182 0 103 (dk_at dksX3_importShare_3 3 rfl rfl)
theorem dX3_importShare_74 : decode cX3_importShare 74 = .ok (.aload_n 0, 1) := dk_42 (dk_at dksX3_importShare_3 6 rfl rfl)
theorem dX3_importShare_75 : decode cX3_importShare 75 = .ok (.aload_n 0, 1) := dk_42 (dk_at dksX3_importShare_3 7 rfl rfl)
theorem dX3_importShare_76 : decode cX3_importShare 76 = .ok (.getfield 216, 3) := dk_180 0 216 (dk_at dksX3_importShare_3 8 rfl rfl)
theorem dX3_importShare_79 : decode cX3_importShare 79 = .ok (.invokevirtual 69, 3) := dk_182 0 69 (dk_at dksX3_importShare_3 11 rfl rfl)
theorem dX3_importShare_82 : decode cX3_importShare 82 = .ok (.ireturn, 1) := dk_172 (dk_at dksX3_importShare_3 14 rfl rfl)
abbrev cX3_readsShare : ByteArray := prog_27_method_70_code
def yX3_readsShare : MethodName := ⟨RX3, "readsShare", "()Z"⟩
def dkwX3_readsShare_5 : List UInt8 := [180, 0, 204, 42, 180, 0, 201, 160, 0, 7, 4, 167, 0, 4, 3, 172]
abbrev dktX3_readsShare_5 : List UInt8 := dkwX3_readsShare_5 ++ []
def dkwX3_readsShare_4 : List UInt8 := [180, 0, 216, 42, 180, 0, 222, 42, 180, 0, 225, 184, 0, 195, 96, 182, 0, 219, 153, 0, 18, 42]
abbrev dktX3_readsShare_4 : List UInt8 := dkwX3_readsShare_4 ++ dktX3_readsShare_5
def dkwX3_readsShare_3 : List UInt8 := [172, 42, 42, 180, 0, 210, 181, 0, 225, 42, 16, 35, 182, 0, 219, 153, 0, 43, 42, 16, 48, 42]
abbrev dktX3_readsShare_3 : List UInt8 := dkwX3_readsShare_3 ++ dktX3_readsShare_4
def dkwX3_readsShare_2 : List UInt8 := [181, 0, 222, 42, 16, 64, 182, 0, 219, 153, 0, 14, 42, 4, 17, 39, 15, 182, 0, 213, 154, 0, 5, 3]
abbrev dktX3_readsShare_2 : List UInt8 := dkwX3_readsShare_2 ++ dktX3_readsShare_3
def dkwX3_readsShare_1 : List UInt8 := [182, 0, 219, 153, 0, 14, 42, 3, 17, 3, 250, 182, 0, 213, 154, 0, 5, 3, 172, 42, 42, 180, 0, 210]
abbrev dktX3_readsShare_1 : List UInt8 := dkwX3_readsShare_1 ++ dktX3_readsShare_2
def dkwX3_readsShare_0 : List UInt8 := [42, 4, 16, 24, 182, 0, 213, 154, 0, 5, 3, 172, 42, 42, 180, 0, 210, 181, 0, 216, 42, 16, 58]
abbrev dktX3_readsShare_0 : List UInt8 := dkwX3_readsShare_0 ++ dktX3_readsShare_1
theorem dksX3_readsShare_0 : cX3_readsShare.data.toList.drop 0 = dktX3_readsShare_0 := by decide +kernel
theorem dksX3_readsShare_1 : cX3_readsShare.data.toList.drop 23 = dktX3_readsShare_1 := dk_seg dksX3_readsShare_0 23 rfl rfl
theorem dksX3_readsShare_2 : cX3_readsShare.data.toList.drop 47 = dktX3_readsShare_2 := dk_seg dksX3_readsShare_1 24 rfl rfl
theorem dksX3_readsShare_3 : cX3_readsShare.data.toList.drop 71 = dktX3_readsShare_3 := dk_seg dksX3_readsShare_2 24 rfl rfl
theorem dksX3_readsShare_4 : cX3_readsShare.data.toList.drop 93 = dktX3_readsShare_4 := dk_seg dksX3_readsShare_3 22 rfl rfl
theorem dksX3_readsShare_5 : cX3_readsShare.data.toList.drop 115 = dktX3_readsShare_5 := dk_seg dksX3_readsShare_4 22 rfl rfl
theorem dX3_readsShare_0 : decode cX3_readsShare 0 = .ok (.aload_n 0, 1) := dk_42 (dk_at dksX3_readsShare_0 0 rfl rfl)
theorem dX3_readsShare_1 : decode cX3_readsShare 1 = .ok (.iconst 1, 1) := dk_4 (dk_at dksX3_readsShare_0 1 rfl rfl)
theorem dX3_readsShare_2 : decode cX3_readsShare 2 = .ok (.bipush 24, 2) := dk_16 24 (dk_at dksX3_readsShare_0 2 rfl rfl)
theorem dX3_readsShare_4 : decode cX3_readsShare 4 = .ok (.invokevirtual 213, 3) := dk_182 0 213 (dk_at dksX3_readsShare_0 4 rfl rfl)
theorem dX3_readsShare_7 : decode cX3_readsShare 7 = .ok (.ifCond .ne 5, 3) := dk_154 0 5 (dk_at dksX3_readsShare_0 7 rfl rfl)
theorem dX3_readsShare_10 : decode cX3_readsShare 10 = .ok (.iconst 0, 1) := dk_3 (dk_at dksX3_readsShare_0 10 rfl rfl)
theorem dX3_readsShare_11 : decode cX3_readsShare 11 = .ok (.ireturn, 1) := dk_172 (dk_at dksX3_readsShare_0 11 rfl rfl)
theorem dX3_readsShare_12 : decode cX3_readsShare 12 = .ok (.aload_n 0, 1) := dk_42 (dk_at dksX3_readsShare_0 12 rfl rfl)
theorem dX3_readsShare_13 : decode cX3_readsShare 13 = .ok (.aload_n 0, 1) := dk_42 (dk_at dksX3_readsShare_0 13 rfl rfl)
theorem dX3_readsShare_14 : decode cX3_readsShare 14 = .ok (.getfield 210, 3) := dk_180 0 210 (dk_at dksX3_readsShare_0 14 rfl rfl)
theorem dX3_readsShare_17 : decode cX3_readsShare 17 = .ok (.putfield 216, 3) := dk_181 0 216 (dk_at dksX3_readsShare_0 17 rfl rfl)
theorem dX3_readsShare_20 : decode cX3_readsShare 20 = .ok (.aload_n 0, 1) := dk_42 (dk_at dksX3_readsShare_0 20 rfl rfl)
theorem dX3_readsShare_21 : decode cX3_readsShare 21 = .ok (.bipush 58, 2) := dk_16 58 (dk_at dksX3_readsShare_0 21 rfl rfl)
theorem dX3_readsShare_23 : decode cX3_readsShare 23 = .ok (.invokevirtual 219, 3) := dk_182 0 219 (dk_at dksX3_readsShare_1 0 rfl rfl)
theorem dX3_readsShare_26 : decode cX3_readsShare 26 = .ok (.ifCond .eq 14, 3) := dk_153 0 14 (dk_at dksX3_readsShare_1 3 rfl rfl)
theorem dX3_readsShare_29 : decode cX3_readsShare 29 = .ok (.aload_n 0, 1) := dk_42 (dk_at dksX3_readsShare_1 6 rfl rfl)
theorem dX3_readsShare_30 : decode cX3_readsShare 30 = .ok (.iconst 0, 1) := dk_3 (dk_at dksX3_readsShare_1 7 rfl rfl)
theorem dX3_readsShare_31 : decode cX3_readsShare 31 = .ok (.sipush 1018, 3) := dk_17 3 250 (dk_at dksX3_readsShare_1 8 rfl rfl)
theorem dX3_readsShare_34 : decode cX3_readsShare 34 = .ok (.invokevirtual 213, 3) := dk_182 0 213 (dk_at dksX3_readsShare_1 11 rfl rfl)
theorem dX3_readsShare_37 : decode cX3_readsShare 37 = .ok (.ifCond .ne 5, 3) := dk_154 0 5 (dk_at dksX3_readsShare_1 14 rfl rfl)
theorem dX3_readsShare_40 : decode cX3_readsShare 40 = .ok (.iconst 0, 1) := dk_3 (dk_at dksX3_readsShare_1 17 rfl rfl)
theorem dX3_readsShare_41 : decode cX3_readsShare 41 = .ok (.ireturn, 1) := dk_172 (dk_at dksX3_readsShare_1 18 rfl rfl)
theorem dX3_readsShare_42 : decode cX3_readsShare 42 = .ok (.aload_n 0, 1) := dk_42 (dk_at dksX3_readsShare_1 19 rfl rfl)
theorem dX3_readsShare_43 : decode cX3_readsShare 43 = .ok (.aload_n 0, 1) := dk_42 (dk_at dksX3_readsShare_1 20 rfl rfl)
theorem dX3_readsShare_44 : decode cX3_readsShare 44 = .ok (.getfield 210, 3) := dk_180 0 210 (dk_at dksX3_readsShare_1 21 rfl rfl)
theorem dX3_readsShare_47 : decode cX3_readsShare 47 = .ok (.putfield 222, 3) := dk_181 0 222 (dk_at dksX3_readsShare_2 0 rfl rfl)
theorem dX3_readsShare_50 : decode cX3_readsShare 50 = .ok (.aload_n 0, 1) := dk_42 (dk_at dksX3_readsShare_2 3 rfl rfl)
theorem dX3_readsShare_51 : decode cX3_readsShare 51 = .ok (.bipush 64, 2) := dk_16 64 (dk_at dksX3_readsShare_2 4 rfl rfl)
theorem dX3_readsShare_53 : decode cX3_readsShare 53 = .ok (.invokevirtual 219, 3) := dk_182 0 219 (dk_at dksX3_readsShare_2 6 rfl rfl)
theorem dX3_readsShare_56 : decode cX3_readsShare 56 = .ok (.ifCond .eq 14, 3) := dk_153 0 14 (dk_at dksX3_readsShare_2 9 rfl rfl)
theorem dX3_readsShare_59 : decode cX3_readsShare 59 = .ok (.aload_n 0, 1) := dk_42 (dk_at dksX3_readsShare_2 12 rfl rfl)
theorem dX3_readsShare_60 : decode cX3_readsShare 60 = .ok (.iconst 1, 1) := dk_4 (dk_at dksX3_readsShare_2 13 rfl rfl)
theorem dX3_readsShare_61 : decode cX3_readsShare 61 = .ok (.sipush 9999, 3) := dk_17 39 15 (dk_at dksX3_readsShare_2 14 rfl rfl)
theorem dX3_readsShare_64 : decode cX3_readsShare 64 = .ok (.invokevirtual 213, 3) := dk_182 0 213 (dk_at dksX3_readsShare_2 17 rfl rfl)
theorem dX3_readsShare_67 : decode cX3_readsShare 67 = .ok (.ifCond .ne 5, 3) := dk_154 0 5 (dk_at dksX3_readsShare_2 20 rfl rfl)
theorem dX3_readsShare_70 : decode cX3_readsShare 70 = .ok (.iconst 0, 1) := dk_3 (dk_at dksX3_readsShare_2 23 rfl rfl)
theorem dX3_readsShare_71 : decode cX3_readsShare 71 = .ok (.ireturn, 1) := dk_172 (dk_at dksX3_readsShare_3 0 rfl rfl)
theorem dX3_readsShare_72 : decode cX3_readsShare 72 = .ok (.aload_n 0, 1) := dk_42 (dk_at dksX3_readsShare_3 1 rfl rfl)
theorem dX3_readsShare_73 : decode cX3_readsShare 73 = .ok (.aload_n 0, 1) := dk_42 (dk_at dksX3_readsShare_3 2 rfl rfl)
theorem dX3_readsShare_74 : decode cX3_readsShare 74 = .ok (.getfield 210, 3) := dk_180 0 210 (dk_at dksX3_readsShare_3 3 rfl rfl)
theorem dX3_readsShare_77 : decode cX3_readsShare 77 = .ok (.putfield 225, 3) := dk_181 0 225 (dk_at dksX3_readsShare_3 6 rfl rfl)
theorem dX3_readsShare_80 : decode cX3_readsShare 80 = .ok (.aload_n 0, 1) := dk_42 (dk_at dksX3_readsShare_3 9 rfl rfl)
theorem dX3_readsShare_81 : decode cX3_readsShare 81 = .ok (.bipush 35, 2) := dk_16 35 (dk_at dksX3_readsShare_3 10 rfl rfl)
theorem dX3_readsShare_83 : decode cX3_readsShare 83 = .ok (.invokevirtual 219, 3) := dk_182 0 219 (dk_at dksX3_readsShare_3 12 rfl rfl)
theorem dX3_readsShare_86 : decode cX3_readsShare 86 = .ok (.ifCond .eq 43, 3) := dk_153 0 43 (dk_at dksX3_readsShare_3 15 rfl rfl)
theorem dX3_readsShare_89 : decode cX3_readsShare 89 = .ok (.aload_n 0, 1) := dk_42 (dk_at dksX3_readsShare_3 18 rfl rfl)
theorem dX3_readsShare_90 : decode cX3_readsShare 90 = .ok (.bipush 48, 2) := dk_16 48 (dk_at dksX3_readsShare_3 19 rfl rfl)
theorem dX3_readsShare_92 : decode cX3_readsShare 92 = .ok (.aload_n 0, 1) := dk_42 (dk_at dksX3_readsShare_3 21 rfl rfl)
theorem dX3_readsShare_93 : decode cX3_readsShare 93 = .ok (.getfield 216, 3) := dk_180 0 216 (dk_at dksX3_readsShare_4 0 rfl rfl)
theorem dX3_readsShare_96 : decode cX3_readsShare 96 = .ok (.aload_n 0, 1) := dk_42 (dk_at dksX3_readsShare_4 3 rfl rfl)
theorem dX3_readsShare_97 : decode cX3_readsShare 97 = .ok (.getfield 222, 3) := dk_180 0 222 (dk_at dksX3_readsShare_4 4 rfl rfl)
theorem dX3_readsShare_100 : decode cX3_readsShare 100 = .ok (.aload_n 0, 1) := dk_42 (dk_at dksX3_readsShare_4 7 rfl rfl)
theorem dX3_readsShare_101 : decode cX3_readsShare 101 = .ok (.getfield 225, 3) := dk_180 0 225 (dk_at dksX3_readsShare_4 8 rfl rfl)
theorem dX3_readsShare_104 : decode cX3_readsShare 104 = .ok (.invokestatic 195, 3) := dk_184 0 195 (dk_at dksX3_readsShare_4 11 rfl rfl)
theorem dX3_readsShare_107 : decode cX3_readsShare 107 = .ok (.iadd, 1) := dk_96 (dk_at dksX3_readsShare_4 14 rfl rfl)
theorem dX3_readsShare_108 : decode cX3_readsShare 108 = .ok (.invokevirtual 219, 3) := dk_182 0 219 (dk_at dksX3_readsShare_4 15 rfl rfl)
theorem dX3_readsShare_111 : decode cX3_readsShare 111 = .ok (.ifCond .eq 18, 3) := dk_153 0 18 (dk_at dksX3_readsShare_4 18 rfl rfl)
theorem dX3_readsShare_114 : decode cX3_readsShare 114 = .ok (.aload_n 0, 1) := dk_42 (dk_at dksX3_readsShare_4 21 rfl rfl)
theorem dX3_readsShare_115 : decode cX3_readsShare 115 = .ok (.getfield 204, 3) := dk_180 0 204 (dk_at dksX3_readsShare_5 0 rfl rfl)
theorem dX3_readsShare_118 : decode cX3_readsShare 118 = .ok (.aload_n 0, 1) := dk_42 (dk_at dksX3_readsShare_5 3 rfl rfl)
theorem dX3_readsShare_119 : decode cX3_readsShare 119 = .ok (.getfield 201, 3) := dk_180 0 201 (dk_at dksX3_readsShare_5 4 rfl rfl)
theorem dX3_readsShare_122 : decode cX3_readsShare 122 = .ok (.if_icmp .ne 7, 3) := dk_160 0 7 (dk_at dksX3_readsShare_5 7 rfl rfl)
theorem dX3_readsShare_125 : decode cX3_readsShare 125 = .ok (.iconst 1, 1) := dk_4 (dk_at dksX3_readsShare_5 10 rfl rfl)
theorem dX3_readsShare_126 : decode cX3_readsShare 126 = .ok (.goto 4, 3) := dk_167 0 4 (dk_at dksX3_readsShare_5 11 rfl rfl)
theorem dX3_readsShare_129 : decode cX3_readsShare 129 = .ok (.iconst 0, 1) := dk_3 (dk_at dksX3_readsShare_5 14 rfl rfl)
theorem dX3_readsShare_130 : decode cX3_readsShare 130 = .ok (.ireturn, 1) := dk_172 (dk_at dksX3_readsShare_5 15 rfl rfl)
abbrev cX3_readsNumber : ByteArray := prog_27_method_69_code
def yX3_readsNumber : MethodName := ⟨RX3, "readsNumber", "(II)Z"⟩
def dkwX3_readsNumber_4 : List UInt8 := [180, 0, 210, 27, 28, 184, 0, 45, 154, 0, 10, 42, 29, 181, 0, 204, 3, 172, 4, 172]
abbrev dktX3_readsNumber_4 : List UInt8 := dkwX3_readsNumber_4 ++ []
def dkwX3_readsNumber_3 : List UInt8 := [180, 0, 204, 4, 96, 181, 0, 204, 167, 255, 188, 42, 180, 0, 204, 29, 160, 0, 5, 3, 172, 42]
abbrev dktX3_readsNumber_3 : List UInt8 := dkwX3_readsNumber_3 ++ dktX3_readsNumber_4
def dkwX3_readsNumber_2 : List UInt8 := [158, 0, 35, 42, 16, 10, 42, 180, 0, 210, 104, 42, 182, 0, 207, 96, 16, 48, 100, 181, 0, 210, 42, 89]
abbrev dktX3_readsNumber_2 : List UInt8 := dkwX3_readsNumber_2 ++ dktX3_readsNumber_3
def dkwX3_readsNumber_1 : List UInt8 := [16, 48, 16, 57, 184, 0, 45, 153, 0, 50, 42, 180, 0, 204, 29, 159, 0, 10, 42, 180, 0, 210]
abbrev dktX3_readsNumber_1 : List UInt8 := dkwX3_readsNumber_1 ++ dktX3_readsNumber_2
def dkwX3_readsNumber_0 : List UInt8 := [42, 180, 0, 204, 62, 42, 3, 181, 0, 210, 42, 180, 0, 204, 29, 100, 7, 162, 0, 64, 42, 182, 0, 207]
abbrev dktX3_readsNumber_0 : List UInt8 := dkwX3_readsNumber_0 ++ dktX3_readsNumber_1
theorem dksX3_readsNumber_0 : cX3_readsNumber.data.toList.drop 0 = dktX3_readsNumber_0 := by decide +kernel
theorem dksX3_readsNumber_1 : cX3_readsNumber.data.toList.drop 24 = dktX3_readsNumber_1 := dk_seg dksX3_readsNumber_0 24 rfl rfl
theorem dksX3_readsNumber_2 : cX3_readsNumber.data.toList.drop 46 = dktX3_readsNumber_2 := dk_seg dksX3_readsNumber_1 22 rfl rfl
theorem dksX3_readsNumber_3 : cX3_readsNumber.data.toList.drop 70 = dktX3_readsNumber_3 := dk_seg dksX3_readsNumber_2 24 rfl rfl
theorem dksX3_readsNumber_4 : cX3_readsNumber.data.toList.drop 92 = dktX3_readsNumber_4 := dk_seg dksX3_readsNumber_3 22 rfl rfl
theorem dX3_readsNumber_0 : decode cX3_readsNumber 0 = .ok (.aload_n 0, 1) := dk_42 (dk_at dksX3_readsNumber_0 0 rfl rfl)
theorem dX3_readsNumber_1 : decode cX3_readsNumber 1 = .ok (.getfield 204, 3) := dk_180 0 204 (dk_at dksX3_readsNumber_0 1 rfl rfl)
theorem dX3_readsNumber_4 : decode cX3_readsNumber 4 = .ok (.istore_n 3, 1) := dk_62 (dk_at dksX3_readsNumber_0 4 rfl rfl)
theorem dX3_readsNumber_5 : decode cX3_readsNumber 5 = .ok (.aload_n 0, 1) := dk_42 (dk_at dksX3_readsNumber_0 5 rfl rfl)
theorem dX3_readsNumber_6 : decode cX3_readsNumber 6 = .ok (.iconst 0, 1) := dk_3 (dk_at dksX3_readsNumber_0 6 rfl rfl)
theorem dX3_readsNumber_7 : decode cX3_readsNumber 7 = .ok (.putfield 210, 3) := dk_181 0 210 (dk_at dksX3_readsNumber_0 7 rfl rfl)
theorem dX3_readsNumber_10 : decode cX3_readsNumber 10 = .ok (.aload_n 0, 1) := dk_42 (dk_at dksX3_readsNumber_0 10 rfl rfl)
theorem dX3_readsNumber_11 : decode cX3_readsNumber 11 = .ok (.getfield 204, 3) := dk_180 0 204 (dk_at dksX3_readsNumber_0 11 rfl rfl)
theorem dX3_readsNumber_14 : decode cX3_readsNumber 14 = .ok (.iload_n 3, 1) := dk_29 (dk_at dksX3_readsNumber_0 14 rfl rfl)
theorem dX3_readsNumber_15 : decode cX3_readsNumber 15 = .ok (.isub, 1) := dk_100 (dk_at dksX3_readsNumber_0 15 rfl rfl)
theorem dX3_readsNumber_16 : decode cX3_readsNumber 16 = .ok (.iconst 4, 1) := dk_7 (dk_at dksX3_readsNumber_0 16 rfl rfl)
theorem dX3_readsNumber_17 : decode cX3_readsNumber 17 = .ok (.if_icmp .ge 64, 3) := dk_162 0 64 (dk_at dksX3_readsNumber_0 17 rfl rfl)
theorem dX3_readsNumber_20 : decode cX3_readsNumber 20 = .ok (.aload_n 0, 1) := dk_42 (dk_at dksX3_readsNumber_0 20 rfl rfl)
theorem dX3_readsNumber_21 : decode cX3_readsNumber 21 = .ok (.invokevirtual 207, 3) := dk_182 0 207 (dk_at dksX3_readsNumber_0 21 rfl rfl)
theorem dX3_readsNumber_24 : decode cX3_readsNumber 24 = .ok (.bipush 48, 2) := dk_16 48 (dk_at dksX3_readsNumber_1 0 rfl rfl)
theorem dX3_readsNumber_26 : decode cX3_readsNumber 26 = .ok (.bipush 57, 2) := dk_16 57 (dk_at dksX3_readsNumber_1 2 rfl rfl)
theorem dX3_readsNumber_28 : decode cX3_readsNumber 28 = .ok (.invokestatic 45, 3) := dk_184 0 45 (dk_at dksX3_readsNumber_1 4 rfl rfl)
theorem dX3_readsNumber_31 : decode cX3_readsNumber 31 = .ok (.ifCond .eq 50, 3) := dk_153 0 50 (dk_at dksX3_readsNumber_1 7 rfl rfl)
theorem dX3_readsNumber_34 : decode cX3_readsNumber 34 = .ok (.aload_n 0, 1) := dk_42 (dk_at dksX3_readsNumber_1 10 rfl rfl)
theorem dX3_readsNumber_35 : decode cX3_readsNumber 35 = .ok (.getfield 204, 3) := dk_180 0 204 (dk_at dksX3_readsNumber_1 11 rfl rfl)
theorem dX3_readsNumber_38 : decode cX3_readsNumber 38 = .ok (.iload_n 3, 1) := dk_29 (dk_at dksX3_readsNumber_1 14 rfl rfl)
theorem dX3_readsNumber_39 : decode cX3_readsNumber 39 = .ok (.if_icmp .eq 10, 3) := dk_159 0 10 (dk_at dksX3_readsNumber_1 15 rfl rfl)
theorem dX3_readsNumber_42 : decode cX3_readsNumber 42 = .ok (.aload_n 0, 1) := dk_42 (dk_at dksX3_readsNumber_1 18 rfl rfl)
theorem dX3_readsNumber_43 : decode cX3_readsNumber 43 = .ok (.getfield 210, 3) := dk_180 0 210 (dk_at dksX3_readsNumber_1 19 rfl rfl)
theorem dX3_readsNumber_46 : decode cX3_readsNumber 46 = .ok (.ifCond .le 35, 3) := dk_158 0 35 (dk_at dksX3_readsNumber_2 0 rfl rfl)
theorem dX3_readsNumber_49 : decode cX3_readsNumber 49 = .ok (.aload_n 0, 1) := dk_42 (dk_at dksX3_readsNumber_2 3 rfl rfl)
theorem dX3_readsNumber_50 : decode cX3_readsNumber 50 = .ok (.bipush 10, 2) := dk_16 10 (dk_at dksX3_readsNumber_2 4 rfl rfl)
theorem dX3_readsNumber_52 : decode cX3_readsNumber 52 = .ok (.aload_n 0, 1) := dk_42 (dk_at dksX3_readsNumber_2 6 rfl rfl)
theorem dX3_readsNumber_53 : decode cX3_readsNumber 53 = .ok (.getfield 210, 3) := dk_180 0 210 (dk_at dksX3_readsNumber_2 7 rfl rfl)
theorem dX3_readsNumber_56 : decode cX3_readsNumber 56 = .ok (.imul, 1) := dk_104 (dk_at dksX3_readsNumber_2 10 rfl rfl)
theorem dX3_readsNumber_57 : decode cX3_readsNumber 57 = .ok (.aload_n 0, 1) := dk_42 (dk_at dksX3_readsNumber_2 11 rfl rfl)
theorem dX3_readsNumber_58 : decode cX3_readsNumber 58 = .ok (.invokevirtual 207, 3) := dk_182 0 207 (dk_at dksX3_readsNumber_2 12 rfl rfl)
theorem dX3_readsNumber_61 : decode cX3_readsNumber 61 = .ok (.iadd, 1) := dk_96 (dk_at dksX3_readsNumber_2 15 rfl rfl)
theorem dX3_readsNumber_62 : decode cX3_readsNumber 62 = .ok (.bipush 48, 2) := dk_16 48 (dk_at dksX3_readsNumber_2 16 rfl rfl)
theorem dX3_readsNumber_64 : decode cX3_readsNumber 64 = .ok (.isub, 1) := dk_100 (dk_at dksX3_readsNumber_2 18 rfl rfl)
theorem dX3_readsNumber_65 : decode cX3_readsNumber 65 = .ok (.putfield 210, 3) := dk_181 0 210 (dk_at dksX3_readsNumber_2 19 rfl rfl)
theorem dX3_readsNumber_68 : decode cX3_readsNumber 68 = .ok (.aload_n 0, 1) := dk_42 (dk_at dksX3_readsNumber_2 22 rfl rfl)
theorem dX3_readsNumber_69 : decode cX3_readsNumber 69 = .ok (.dup, 1) := dk_89 (dk_at dksX3_readsNumber_2 23 rfl rfl)
theorem dX3_readsNumber_70 : decode cX3_readsNumber 70 = .ok (.getfield 204, 3) := dk_180 0 204 (dk_at dksX3_readsNumber_3 0 rfl rfl)
theorem dX3_readsNumber_73 : decode cX3_readsNumber 73 = .ok (.iconst 1, 1) := dk_4 (dk_at dksX3_readsNumber_3 3 rfl rfl)
theorem dX3_readsNumber_74 : decode cX3_readsNumber 74 = .ok (.iadd, 1) := dk_96 (dk_at dksX3_readsNumber_3 4 rfl rfl)
theorem dX3_readsNumber_75 : decode cX3_readsNumber 75 = .ok (.putfield 204, 3) := dk_181 0 204 (dk_at dksX3_readsNumber_3 5 rfl rfl)
theorem dX3_readsNumber_78 : decode cX3_readsNumber 78 = .ok (.goto (-68), 3) := dk_167 255 188 (dk_at dksX3_readsNumber_3 8 rfl rfl)
theorem dX3_readsNumber_81 : decode cX3_readsNumber 81 = .ok (.aload_n 0, 1) := dk_42 (dk_at dksX3_readsNumber_3 11 rfl rfl)
theorem dX3_readsNumber_82 : decode cX3_readsNumber 82 = .ok (.getfield 204, 3) := dk_180 0 204 (dk_at dksX3_readsNumber_3 12 rfl rfl)
theorem dX3_readsNumber_85 : decode cX3_readsNumber 85 = .ok (.iload_n 3, 1) := dk_29 (dk_at dksX3_readsNumber_3 15 rfl rfl)
theorem dX3_readsNumber_86 : decode cX3_readsNumber 86 = .ok (.if_icmp .ne 5, 3) := dk_160 0 5 (dk_at dksX3_readsNumber_3 16 rfl rfl)
theorem dX3_readsNumber_89 : decode cX3_readsNumber 89 = .ok (.iconst 0, 1) := dk_3 (dk_at dksX3_readsNumber_3 19 rfl rfl)
theorem dX3_readsNumber_90 : decode cX3_readsNumber 90 = .ok (.ireturn, 1) := dk_172 (dk_at dksX3_readsNumber_3 20 rfl rfl)
theorem dX3_readsNumber_91 : decode cX3_readsNumber 91 = .ok (.aload_n 0, 1) := dk_42 (dk_at dksX3_readsNumber_3 21 rfl rfl)
theorem dX3_readsNumber_92 : decode cX3_readsNumber 92 = .ok (.getfield 210, 3) := dk_180 0 210 (dk_at dksX3_readsNumber_4 0 rfl rfl)
theorem dX3_readsNumber_95 : decode cX3_readsNumber 95 = .ok (.iload_n 1, 1) := dk_27 (dk_at dksX3_readsNumber_4 3 rfl rfl)
theorem dX3_readsNumber_96 : decode cX3_readsNumber 96 = .ok (.iload_n 2, 1) := dk_28 (dk_at dksX3_readsNumber_4 4 rfl rfl)
theorem dX3_readsNumber_97 : decode cX3_readsNumber 97 = .ok (.invokestatic 45, 3) := dk_184 0 45 (dk_at dksX3_readsNumber_4 5 rfl rfl)
theorem dX3_readsNumber_100 : decode cX3_readsNumber 100 = .ok (.ifCond .ne 10, 3) := dk_154 0 10 (dk_at dksX3_readsNumber_4 8 rfl rfl)
theorem dX3_readsNumber_103 : decode cX3_readsNumber 103 = .ok (.aload_n 0, 1) := dk_42 (dk_at dksX3_readsNumber_4 11 rfl rfl)
theorem dX3_readsNumber_104 : decode cX3_readsNumber 104 = .ok (.iload_n 3, 1) := dk_29 (dk_at dksX3_readsNumber_4 12 rfl rfl)
theorem dX3_readsNumber_105 : decode cX3_readsNumber 105 = .ok (.putfield 204, 3) := dk_181 0 204 (dk_at dksX3_readsNumber_4 13 rfl rfl)
theorem dX3_readsNumber_108 : decode cX3_readsNumber 108 = .ok (.iconst 0, 1) := dk_3 (dk_at dksX3_readsNumber_4 16 rfl rfl)
theorem dX3_readsNumber_109 : decode cX3_readsNumber 109 = .ok (.ireturn, 1) := dk_172 (dk_at dksX3_readsNumber_4 17 rfl rfl)
theorem dX3_readsNumber_110 : decode cX3_readsNumber 110 = .ok (.iconst 1, 1) := dk_4 (dk_at dksX3_readsNumber_4 18 rfl rfl)
theorem dX3_readsNumber_111 : decode cX3_readsNumber 111 = .ok (.ireturn, 1) := dk_172 (dk_at dksX3_readsNumber_4 19 rfl rfl)
abbrev cX3_here : ByteArray := prog_27_method_67_code
def yX3_here : MethodName := ⟨RX3, "here", "()I"⟩
def dkwX3_here_1 : List UInt8 := [172]
abbrev dktX3_here_1 : List UInt8 := dkwX3_here_1 ++ []
def dkwX3_here_0 : List UInt8 := [42, 180, 0, 204, 42, 180, 0, 201, 162, 0, 15, 42, 180, 0, 35, 42, 180, 0, 204, 52, 167, 0, 4, 3]
abbrev dktX3_here_0 : List UInt8 := dkwX3_here_0 ++ dktX3_here_1
theorem dksX3_here_0 : cX3_here.data.toList.drop 0 = dktX3_here_0 := by decide +kernel
theorem dksX3_here_1 : cX3_here.data.toList.drop 24 = dktX3_here_1 := dk_seg dksX3_here_0 24 rfl rfl
theorem dX3_here_0 : decode cX3_here 0 = .ok (.aload_n 0, 1) := dk_42 (dk_at dksX3_here_0 0 rfl rfl)
theorem dX3_here_1 : decode cX3_here 1 = .ok (.getfield 204, 3) := dk_180 0 204 (dk_at dksX3_here_0 1 rfl rfl)
theorem dX3_here_4 : decode cX3_here 4 = .ok (.aload_n 0, 1) := dk_42 (dk_at dksX3_here_0 4 rfl rfl)
theorem dX3_here_5 : decode cX3_here 5 = .ok (.getfield 201, 3) := dk_180 0 201 (dk_at dksX3_here_0 5 rfl rfl)
theorem dX3_here_8 : decode cX3_here 8 = .ok (.if_icmp .ge 15, 3) := dk_162 0 15 (dk_at dksX3_here_0 8 rfl rfl)
theorem dX3_here_11 : decode cX3_here 11 = .ok (.aload_n 0, 1) := dk_42 (dk_at dksX3_here_0 11 rfl rfl)
theorem dX3_here_12 : decode cX3_here 12 = .ok (.getfield 35, 3) := dk_180 0 35 (dk_at dksX3_here_0 12 rfl rfl)
theorem dX3_here_15 : decode cX3_here 15 = .ok (.aload_n 0, 1) := dk_42 (dk_at dksX3_here_0 15 rfl rfl)
theorem dX3_here_16 : decode cX3_here 16 = .ok (.getfield 204, 3) := dk_180 0 204 (dk_at dksX3_here_0 16 rfl rfl)
theorem dX3_here_19 : decode cX3_here 19 = .ok (.caload, 1) := dk_52 (dk_at dksX3_here_0 19 rfl rfl)
theorem dX3_here_20 : decode cX3_here 20 = .ok (.goto 4, 3) := dk_167 0 4 (dk_at dksX3_here_0 20 rfl rfl)
theorem dX3_here_23 : decode cX3_here 23 = .ok (.iconst 0, 1) := dk_3 (dk_at dksX3_here_0 23 rfl rfl)
theorem dX3_here_24 : decode cX3_here 24 = .ok (.ireturn, 1) := dk_172 (dk_at dksX3_here_1 0 rfl rfl)
abbrev cX3_eats : ByteArray := prog_27_method_68_code
def yX3_eats : MethodName := ⟨RX3, "eats", "(I)Z"⟩
def dkwX3_eats_1 : List UInt8 := [61, 42, 89, 180, 0, 204, 28, 153, 0, 7, 4, 167, 0, 4, 3, 96, 181, 0, 204, 28, 172]
abbrev dktX3_eats_1 : List UInt8 := dkwX3_eats_1 ++ []
def dkwX3_eats_0 : List UInt8 := [42, 180, 0, 204, 42, 180, 0, 201, 162, 0, 15, 42, 182, 0, 207, 27, 160, 0, 7, 4, 167, 0, 4, 3]
abbrev dktX3_eats_0 : List UInt8 := dkwX3_eats_0 ++ dktX3_eats_1
theorem dksX3_eats_0 : cX3_eats.data.toList.drop 0 = dktX3_eats_0 := by decide +kernel
theorem dksX3_eats_1 : cX3_eats.data.toList.drop 24 = dktX3_eats_1 := dk_seg dksX3_eats_0 24 rfl rfl
theorem dX3_eats_0 : decode cX3_eats 0 = .ok (.aload_n 0, 1) := dk_42 (dk_at dksX3_eats_0 0 rfl rfl)
theorem dX3_eats_1 : decode cX3_eats 1 = .ok (.getfield 204, 3) := dk_180 0 204 (dk_at dksX3_eats_0 1 rfl rfl)
theorem dX3_eats_4 : decode cX3_eats 4 = .ok (.aload_n 0, 1) := dk_42 (dk_at dksX3_eats_0 4 rfl rfl)
theorem dX3_eats_5 : decode cX3_eats 5 = .ok (.getfield 201, 3) := dk_180 0 201 (dk_at dksX3_eats_0 5 rfl rfl)
theorem dX3_eats_8 : decode cX3_eats 8 = .ok (.if_icmp .ge 15, 3) := dk_162 0 15 (dk_at dksX3_eats_0 8 rfl rfl)
theorem dX3_eats_11 : decode cX3_eats 11 = .ok (.aload_n 0, 1) := dk_42 (dk_at dksX3_eats_0 11 rfl rfl)
theorem dX3_eats_12 : decode cX3_eats 12 = .ok (.invokevirtual 207, 3) := dk_182 0 207 (dk_at dksX3_eats_0 12 rfl rfl)
theorem dX3_eats_15 : decode cX3_eats 15 = .ok (.iload_n 1, 1) := dk_27 (dk_at dksX3_eats_0 15 rfl rfl)
theorem dX3_eats_16 : decode cX3_eats 16 = .ok (.if_icmp .ne 7, 3) := dk_160 0 7 (dk_at dksX3_eats_0 16 rfl rfl)
theorem dX3_eats_19 : decode cX3_eats 19 = .ok (.iconst 1, 1) := dk_4 (dk_at dksX3_eats_0 19 rfl rfl)
theorem dX3_eats_20 : decode cX3_eats 20 = .ok (.goto 4, 3) := dk_167 0 4 (dk_at dksX3_eats_0 20 rfl rfl)
theorem dX3_eats_23 : decode cX3_eats 23 = .ok (.iconst 0, 1) := dk_3 (dk_at dksX3_eats_0 23 rfl rfl)
theorem dX3_eats_24 : decode cX3_eats 24 = .ok (.istore_n 2, 1) := dk_61 (dk_at dksX3_eats_1 0 rfl rfl)
theorem dX3_eats_25 : decode cX3_eats 25 = .ok (.aload_n 0, 1) := dk_42 (dk_at dksX3_eats_1 1 rfl rfl)
theorem dX3_eats_26 : decode cX3_eats 26 = .ok (.dup, 1) := dk_89 (dk_at dksX3_eats_1 2 rfl rfl)
theorem dX3_eats_27 : decode cX3_eats 27 = .ok (.getfield 204, 3) := dk_180 0 204 (dk_at dksX3_eats_1 3 rfl rfl)
theorem dX3_eats_30 : decode cX3_eats 30 = .ok (.iload_n 2, 1) := dk_28 (dk_at dksX3_eats_1 6 rfl rfl)
theorem dX3_eats_31 : decode cX3_eats 31 = .ok (.ifCond .eq 7, 3) := dk_153 0 7 (dk_at dksX3_eats_1 7 rfl rfl)
theorem dX3_eats_34 : decode cX3_eats 34 = .ok (.iconst 1, 1) := dk_4 (dk_at dksX3_eats_1 10 rfl rfl)
theorem dX3_eats_35 : decode cX3_eats 35 = .ok (.goto 4, 3) := dk_167 0 4 (dk_at dksX3_eats_1 11 rfl rfl)
theorem dX3_eats_38 : decode cX3_eats 38 = .ok (.iconst 0, 1) := dk_3 (dk_at dksX3_eats_1 14 rfl rfl)
theorem dX3_eats_39 : decode cX3_eats 39 = .ok (.iadd, 1) := dk_96 (dk_at dksX3_eats_1 15 rfl rfl)
theorem dX3_eats_40 : decode cX3_eats 40 = .ok (.putfield 204, 3) := dk_181 0 204 (dk_at dksX3_eats_1 16 rfl rfl)
theorem dX3_eats_43 : decode cX3_eats 43 = .ok (.iload_n 2, 1) := dk_28 (dk_at dksX3_eats_1 19 rfl rfl)
theorem dX3_eats_44 : decode cX3_eats 44 = .ok (.ireturn, 1) := dk_172 (dk_at dksX3_eats_1 20 rfl rfl)
abbrev cX3_bad : ByteArray := prog_27_method_72_code
def yX3_bad : MethodName := ⟨RX3, "bad", "(II)I"⟩
def dkwX3_bad_3 : List UInt8 := [167, 255, 210, 42, 5, 182, 0, 80, 172]
abbrev dktX3_bad_3 : List UInt8 := dkwX3_bad_3 ++ []
def dkwX3_bad_2 : List UInt8 := [153, 0, 19, 21, 4, 28, 160, 0, 10, 42, 21, 5, 182, 0, 69, 172, 132, 4, 1, 132, 5, 1]
abbrev dktX3_bad_2 : List UInt8 := dkwX3_bad_2 ++ dktX3_bad_3
def dkwX3_bad_1 : List UInt8 := [16, 24, 163, 0, 45, 42, 27, 21, 5, 182, 0, 86, 153, 0, 29, 42, 27, 21, 5, 182, 0, 90]
abbrev dktX3_bad_1 : List UInt8 := dkwX3_bad_1 ++ dktX3_bad_2
def dkwX3_bad_0 : List UInt8 := [42, 27, 182, 0, 121, 62, 29, 153, 0, 9, 42, 29, 182, 0, 80, 172, 3, 54, 4, 4, 54, 5, 21, 5]
abbrev dktX3_bad_0 : List UInt8 := dkwX3_bad_0 ++ dktX3_bad_1
theorem dksX3_bad_0 : cX3_bad.data.toList.drop 0 = dktX3_bad_0 := by decide +kernel
theorem dksX3_bad_1 : cX3_bad.data.toList.drop 24 = dktX3_bad_1 := dk_seg dksX3_bad_0 24 rfl rfl
theorem dksX3_bad_2 : cX3_bad.data.toList.drop 46 = dktX3_bad_2 := dk_seg dksX3_bad_1 22 rfl rfl
theorem dksX3_bad_3 : cX3_bad.data.toList.drop 68 = dktX3_bad_3 := dk_seg dksX3_bad_2 22 rfl rfl
theorem dX3_bad_0 : decode cX3_bad 0 = .ok (.aload_n 0, 1) := dk_42 (dk_at dksX3_bad_0 0 rfl rfl)
theorem dX3_bad_1 : decode cX3_bad 1 = .ok (.iload_n 1, 1) := dk_27 (dk_at dksX3_bad_0 1 rfl rfl)
theorem dX3_bad_2 : decode cX3_bad 2 = .ok (.invokevirtual 121, 3) := dk_182 0 121 (dk_at dksX3_bad_0 2 rfl rfl)
theorem dX3_bad_5 : decode cX3_bad 5 = .ok (.istore_n 3, 1) := dk_62 (dk_at dksX3_bad_0 5 rfl rfl)
theorem dX3_bad_6 : decode cX3_bad 6 = .ok (.iload_n 3, 1) := dk_29 (dk_at dksX3_bad_0 6 rfl rfl)
theorem dX3_bad_7 : decode cX3_bad 7 = .ok (.ifCond .eq 9, 3) := dk_153 0 9 (dk_at dksX3_bad_0 7 rfl rfl)
theorem dX3_bad_10 : decode cX3_bad 10 = .ok (.aload_n 0, 1) := dk_42 (dk_at dksX3_bad_0 10 rfl rfl)
theorem dX3_bad_11 : decode cX3_bad 11 = .ok (.iload_n 3, 1) := dk_29 (dk_at dksX3_bad_0 11 rfl rfl)
theorem dX3_bad_12 : decode cX3_bad 12 = .ok (.invokevirtual 80, 3) := dk_182 0 80 (dk_at dksX3_bad_0 12 rfl rfl)
theorem dX3_bad_15 : decode cX3_bad 15 = .ok (.ireturn, 1) := dk_172 (dk_at dksX3_bad_0 15 rfl rfl)
theorem dX3_bad_16 : decode cX3_bad 16 = .ok (.iconst 0, 1) := dk_3 (dk_at dksX3_bad_0 16 rfl rfl)
theorem dX3_bad_17 : decode cX3_bad 17 = .ok (.istore 4, 2) := dk_54 4 (dk_at dksX3_bad_0 17 rfl rfl)
theorem dX3_bad_19 : decode cX3_bad 19 = .ok (.iconst 1, 1) := dk_4 (dk_at dksX3_bad_0 19 rfl rfl)
theorem dX3_bad_20 : decode cX3_bad 20 = .ok (.istore 5, 2) := dk_54 5 (dk_at dksX3_bad_0 20 rfl rfl)
theorem dX3_bad_22 : decode cX3_bad 22 = .ok (.iload 5, 2) := dk_21 5 (dk_at dksX3_bad_0 22 rfl rfl)
theorem dX3_bad_24 : decode cX3_bad 24 = .ok (.bipush 24, 2) := dk_16 24 (dk_at dksX3_bad_1 0 rfl rfl)
theorem dX3_bad_26 : decode cX3_bad 26 = .ok (.if_icmp .gt 45, 3) := dk_163 0 45 (dk_at dksX3_bad_1 2 rfl rfl)
theorem dX3_bad_29 : decode cX3_bad 29 = .ok (.aload_n 0, 1) := dk_42 (dk_at dksX3_bad_1 5 rfl rfl)
theorem dX3_bad_30 : decode cX3_bad 30 = .ok (.iload_n 1, 1) := dk_27 (dk_at dksX3_bad_1 6 rfl rfl)
theorem dX3_bad_31 : decode cX3_bad 31 = .ok (.iload 5, 2) := dk_21 5 (dk_at dksX3_bad_1 7 rfl rfl)
theorem dX3_bad_33 : decode cX3_bad 33 = .ok (.invokevirtual 86, 3) := dk_182 0 86 (dk_at dksX3_bad_1 9 rfl rfl)
theorem dX3_bad_36 : decode cX3_bad 36 = .ok (.ifCond .eq 29, 3) := dk_153 0 29 (dk_at dksX3_bad_1 12 rfl rfl)
theorem dX3_bad_39 : decode cX3_bad 39 = .ok (.aload_n 0, 1) := dk_42 (dk_at dksX3_bad_1 15 rfl rfl)
theorem dX3_bad_40 : decode cX3_bad 40 = .ok (.iload_n 1, 1) := dk_27 (dk_at dksX3_bad_1 16 rfl rfl)
theorem dX3_bad_41 : decode cX3_bad 41 = .ok (.iload 5, 2) := dk_21 5 (dk_at dksX3_bad_1 17 rfl rfl)
theorem dX3_bad_43 : decode cX3_bad 43 = .ok (.invokevirtual 90, 3) := dk_182 0 90 (dk_at dksX3_bad_1 19 rfl rfl)
theorem dX3_bad_46 : decode cX3_bad 46 = .ok (.ifCond .eq 19, 3) := dk_153 0 19 (dk_at dksX3_bad_2 0 rfl rfl)
theorem dX3_bad_49 : decode cX3_bad 49 = .ok (.iload 4, 2) := dk_21 4 (dk_at dksX3_bad_2 3 rfl rfl)
theorem dX3_bad_51 : decode cX3_bad 51 = .ok (.iload_n 2, 1) := dk_28 (dk_at dksX3_bad_2 5 rfl rfl)
theorem dX3_bad_52 : decode cX3_bad 52 = .ok (.if_icmp .ne 10, 3) := dk_160 0 10 (dk_at dksX3_bad_2 6 rfl rfl)
theorem dX3_bad_55 : decode cX3_bad 55 = .ok (.aload_n 0, 1) := dk_42 (dk_at dksX3_bad_2 9 rfl rfl)
theorem dX3_bad_56 : decode cX3_bad 56 = .ok (.iload 5, 2) := dk_21 5 (dk_at dksX3_bad_2 10 rfl rfl)
theorem dX3_bad_58 : decode cX3_bad 58 = .ok (.invokevirtual 69, 3) := dk_182 0 69 (dk_at dksX3_bad_2 12 rfl rfl)
theorem dX3_bad_61 : decode cX3_bad 61 = .ok (.ireturn, 1) := dk_172 (dk_at dksX3_bad_2 15 rfl rfl)
theorem dX3_bad_62 : decode cX3_bad 62 = .ok (.iinc 4 1, 3) := dk_132 4 1 (dk_at dksX3_bad_2 16 rfl rfl)
theorem dX3_bad_65 : decode cX3_bad 65 = .ok (.iinc 5 1, 3) := dk_132 5 1 (dk_at dksX3_bad_2 19 rfl rfl)
theorem dX3_bad_68 : decode cX3_bad 68 = .ok (.goto (-46), 3) := dk_167 255 210 (dk_at dksX3_bad_3 0 rfl rfl)
theorem dX3_bad_71 : decode cX3_bad 71 = .ok (.aload_n 0, 1) := dk_42 (dk_at dksX3_bad_3 3 rfl rfl)
theorem dX3_bad_72 : decode cX3_bad 72 = .ok (.iconst 2, 1) := dk_5 (dk_at dksX3_bad_3 4 rfl rfl)
theorem dX3_bad_73 : decode cX3_bad 73 = .ok (.invokevirtual 80, 3) := dk_182 0 80 (dk_at dksX3_bad_3 5 rfl rfl)
theorem dX3_bad_76 : decode cX3_bad 76 = .ok (.ireturn, 1) := dk_172 (dk_at dksX3_bad_3 8 rfl rfl)
abbrev cX3_setPolicy : ByteArray := prog_27_method_76_code
def yX3_setPolicy : MethodName := ⟨RX3, "setPolicy", "(I)Z"⟩
def dkwX3_setPolicy_6 : List UInt8 := [28, 153, 0, 11, 29, 153, 0, 7, 4, 167, 0, 4, 3, 172]
abbrev dktX3_setPolicy_6 : List UInt8 := dkwX3_setPolicy_6 ++ []
def dkwX3_setPolicy_5 : List UInt8 := [132, 4, 1, 167, 255, 227, 42, 3, 181, 0, 201, 42, 28, 153, 0, 7, 3, 167, 0, 4, 6, 181, 0, 42]
abbrev dktX3_setPolicy_5 : List UInt8 := dkwX3_setPolicy_5 ++ dktX3_setPolicy_6
def dkwX3_setPolicy_4 : List UInt8 := [42, 180, 0, 201, 162, 0, 26, 42, 27, 16, 12, 21, 4, 96, 42, 180, 0, 35, 21, 4, 52, 182, 0, 53]
abbrev dktX3_setPolicy_4 : List UInt8 := dkwX3_setPolicy_4 ++ dktX3_setPolicy_5
def dkwX3_setPolicy_3 : List UInt8 := [182, 0, 140, 62, 28, 153, 0, 49, 42, 27, 16, 11, 42, 180, 0, 201, 182, 0, 53, 3, 54, 4, 21, 4]
abbrev dktX3_setPolicy_3 : List UInt8 := dkwX3_setPolicy_3 ++ dktX3_setPolicy_4
def dkwX3_setPolicy_2 : List UInt8 := [4, 167, 0, 4, 3, 61, 42, 28, 153, 0, 7, 2, 167, 0, 7, 42, 180, 0, 204, 181, 0, 38, 42, 27]
abbrev dktX3_setPolicy_2 : List UInt8 := dkwX3_setPolicy_2 ++ dktX3_setPolicy_3
def dkwX3_setPolicy_1 : List UInt8 := [180, 0, 201, 153, 0, 21, 42, 184, 0, 232, 153, 0, 18, 42, 180, 0, 204, 42, 180, 0, 201, 160, 0, 7]
abbrev dktX3_setPolicy_1 : List UInt8 := dkwX3_setPolicy_1 ++ dktX3_setPolicy_2
def dkwX3_setPolicy_0 : List UInt8 := [42, 42, 27, 182, 0, 121, 181, 0, 42, 42, 180, 0, 42, 153, 0, 5, 3, 172, 42, 3, 181, 0, 204, 42]
abbrev dktX3_setPolicy_0 : List UInt8 := dkwX3_setPolicy_0 ++ dktX3_setPolicy_1
theorem dksX3_setPolicy_0 : cX3_setPolicy.data.toList.drop 0 = dktX3_setPolicy_0 := by decide +kernel
theorem dksX3_setPolicy_1 : cX3_setPolicy.data.toList.drop 24 = dktX3_setPolicy_1 := dk_seg dksX3_setPolicy_0 24 rfl rfl
theorem dksX3_setPolicy_2 : cX3_setPolicy.data.toList.drop 48 = dktX3_setPolicy_2 := dk_seg dksX3_setPolicy_1 24 rfl rfl
theorem dksX3_setPolicy_3 : cX3_setPolicy.data.toList.drop 72 = dktX3_setPolicy_3 := dk_seg dksX3_setPolicy_2 24 rfl rfl
theorem dksX3_setPolicy_4 : cX3_setPolicy.data.toList.drop 96 = dktX3_setPolicy_4 := dk_seg dksX3_setPolicy_3 24 rfl rfl
theorem dksX3_setPolicy_5 : cX3_setPolicy.data.toList.drop 120 = dktX3_setPolicy_5 := dk_seg dksX3_setPolicy_4 24 rfl rfl
theorem dksX3_setPolicy_6 : cX3_setPolicy.data.toList.drop 144 = dktX3_setPolicy_6 := dk_seg dksX3_setPolicy_5 24 rfl rfl
theorem dX3_setPolicy_0 : decode cX3_setPolicy 0 = .ok (.aload_n 0, 1) := dk_42 (dk_at dksX3_setPolicy_0 0 rfl rfl)
theorem dX3_setPolicy_1 : decode cX3_setPolicy 1 = .ok (.aload_n 0, 1) := dk_42 (dk_at dksX3_setPolicy_0 1 rfl rfl)
theorem dX3_setPolicy_2 : decode cX3_setPolicy 2 = .ok (.iload_n 1, 1) := dk_27 (dk_at dksX3_setPolicy_0 2 rfl rfl)
theorem dX3_setPolicy_3 : decode cX3_setPolicy 3 = .ok (.invokevirtual 121, 3) := dk_182 0 121 (dk_at dksX3_setPolicy_0 3 rfl rfl)
theorem dX3_setPolicy_6 : decode cX3_setPolicy 6 = .ok (.putfield 42, 3) := dk_181 0 42 (dk_at dksX3_setPolicy_0 6 rfl rfl)
theorem dX3_setPolicy_9 : decode cX3_setPolicy 9 = .ok (.aload_n 0, 1) := dk_42 (dk_at dksX3_setPolicy_0 9 rfl rfl)
theorem dX3_setPolicy_10 : decode cX3_setPolicy 10 = .ok (.getfield 42, 3) := dk_180 0 42 (dk_at dksX3_setPolicy_0 10 rfl rfl)
theorem dX3_setPolicy_13 : decode cX3_setPolicy 13 = .ok (.ifCond .eq 5, 3) := dk_153 0 5 (dk_at dksX3_setPolicy_0 13 rfl rfl)
theorem dX3_setPolicy_16 : decode cX3_setPolicy 16 = .ok (.iconst 0, 1) := dk_3 (dk_at dksX3_setPolicy_0 16 rfl rfl)
theorem dX3_setPolicy_17 : decode cX3_setPolicy 17 = .ok (.ireturn, 1) := dk_172 (dk_at dksX3_setPolicy_0 17 rfl rfl)
theorem dX3_setPolicy_18 : decode cX3_setPolicy 18 = .ok (.aload_n 0, 1) := dk_42 (dk_at dksX3_setPolicy_0 18 rfl rfl)
theorem dX3_setPolicy_19 : decode cX3_setPolicy 19 = .ok (.iconst 0, 1) := dk_3 (dk_at dksX3_setPolicy_0 19 rfl rfl)
theorem dX3_setPolicy_20 : decode cX3_setPolicy 20 = .ok (.putfield 204, 3) := dk_181 0 204 (dk_at dksX3_setPolicy_0 20 rfl rfl)
theorem dX3_setPolicy_23 : decode cX3_setPolicy 23 = .ok (.aload_n 0, 1) := dk_42 (dk_at dksX3_setPolicy_0 23 rfl rfl)
theorem dX3_setPolicy_24 : decode cX3_setPolicy 24 = .ok (.getfield 201, 3) := dk_180 0 201 (dk_at dksX3_setPolicy_1 0 rfl rfl)
theorem dX3_setPolicy_27 : decode cX3_setPolicy 27 = .ok (.ifCond .eq 21, 3) := dk_153 0 21 (dk_at dksX3_setPolicy_1 3 rfl rfl)
theorem dX3_setPolicy_30 : decode cX3_setPolicy 30 = .ok (.aload_n 0, 1) := dk_42 (dk_at dksX3_setPolicy_1 6 rfl rfl)
theorem dX3_setPolicy_31 : decode cX3_setPolicy 31 = .ok (.invokestatic 232, 3) := dk_184 0 232 (dk_at dksX3_setPolicy_1 7 rfl rfl)
theorem dX3_setPolicy_34 : decode cX3_setPolicy 34 = .ok (.ifCond .eq 18, 3) := dk_153 0 18 (dk_at dksX3_setPolicy_1 10 rfl rfl)
theorem dX3_setPolicy_37 : decode cX3_setPolicy 37 = .ok (.aload_n 0, 1) := dk_42 (dk_at dksX3_setPolicy_1 13 rfl rfl)
theorem dX3_setPolicy_38 : decode cX3_setPolicy 38 = .ok (.getfield 204, 3) := dk_180 0 204 (dk_at dksX3_setPolicy_1 14 rfl rfl)
theorem dX3_setPolicy_41 : decode cX3_setPolicy 41 = .ok (.aload_n 0, 1) := dk_42 (dk_at dksX3_setPolicy_1 17 rfl rfl)
theorem dX3_setPolicy_42 : decode cX3_setPolicy 42 = .ok (.getfield 201, 3) := dk_180 0 201 (dk_at dksX3_setPolicy_1 18 rfl rfl)
theorem dX3_setPolicy_45 : decode cX3_setPolicy 45 = .ok (.if_icmp .ne 7, 3) := dk_160 0 7 (dk_at dksX3_setPolicy_1 21 rfl rfl)
theorem dX3_setPolicy_48 : decode cX3_setPolicy 48 = .ok (.iconst 1, 1) := dk_4 (dk_at dksX3_setPolicy_2 0 rfl rfl)
theorem dX3_setPolicy_49 : decode cX3_setPolicy 49 = .ok (.goto 4, 3) := dk_167 0 4 (dk_at dksX3_setPolicy_2 1 rfl rfl)
theorem dX3_setPolicy_52 : decode cX3_setPolicy 52 = .ok (.iconst 0, 1) := dk_3 (dk_at dksX3_setPolicy_2 4 rfl rfl)
theorem dX3_setPolicy_53 : decode cX3_setPolicy 53 = .ok (.istore_n 2, 1) := dk_61 (dk_at dksX3_setPolicy_2 5 rfl rfl)
theorem dX3_setPolicy_54 : decode cX3_setPolicy 54 = .ok (.aload_n 0, 1) := dk_42 (dk_at dksX3_setPolicy_2 6 rfl rfl)
theorem dX3_setPolicy_55 : decode cX3_setPolicy 55 = .ok (.iload_n 2, 1) := dk_28 (dk_at dksX3_setPolicy_2 7 rfl rfl)
theorem dX3_setPolicy_56 : decode cX3_setPolicy 56 = .ok (.ifCond .eq 7, 3) := dk_153 0 7 (dk_at dksX3_setPolicy_2 8 rfl rfl)
theorem dX3_setPolicy_59 : decode cX3_setPolicy 59 = .ok (.iconst (-1), 1) := dk_2 (dk_at dksX3_setPolicy_2 11 rfl rfl)
theorem dX3_setPolicy_60 : decode cX3_setPolicy 60 = .ok (.goto 7, 3) := dk_167 0 7 (dk_at dksX3_setPolicy_2 12 rfl rfl)
theorem dX3_setPolicy_63 : decode cX3_setPolicy 63 = .ok (.aload_n 0, 1) := dk_42 (dk_at dksX3_setPolicy_2 15 rfl rfl)
theorem dX3_setPolicy_64 : decode cX3_setPolicy 64 = .ok (.getfield 204, 3) := dk_180 0 204 (dk_at dksX3_setPolicy_2 16 rfl rfl)
theorem dX3_setPolicy_67 : decode cX3_setPolicy 67 = .ok (.putfield 38, 3) := dk_181 0 38 (dk_at dksX3_setPolicy_2 19 rfl rfl)
theorem dX3_setPolicy_70 : decode cX3_setPolicy 70 = .ok (.aload_n 0, 1) := dk_42 (dk_at dksX3_setPolicy_2 22 rfl rfl)
theorem dX3_setPolicy_71 : decode cX3_setPolicy 71 = .ok (.iload_n 1, 1) := dk_27 (dk_at dksX3_setPolicy_2 23 rfl rfl)
theorem dX3_setPolicy_72 : decode cX3_setPolicy 72 = .ok (.invokevirtual 140, 3) := dk_182 0 140 (dk_at dksX3_setPolicy_3 0 rfl rfl)
theorem dX3_setPolicy_75 : decode cX3_setPolicy 75 = .ok (.istore_n 3, 1) := dk_62 (dk_at dksX3_setPolicy_3 3 rfl rfl)
theorem dX3_setPolicy_76 : decode cX3_setPolicy 76 = .ok (.iload_n 2, 1) := dk_28 (dk_at dksX3_setPolicy_3 4 rfl rfl)
theorem dX3_setPolicy_77 : decode cX3_setPolicy 77 = .ok (.ifCond .eq 49, 3) := dk_153 0 49 (dk_at dksX3_setPolicy_3 5 rfl rfl)
theorem dX3_setPolicy_80 : decode cX3_setPolicy 80 = .ok (.aload_n 0, 1) := dk_42 (dk_at dksX3_setPolicy_3 8 rfl rfl)
theorem dX3_setPolicy_81 : decode cX3_setPolicy 81 = .ok (.iload_n 1, 1) := dk_27 (dk_at dksX3_setPolicy_3 9 rfl rfl)
theorem dX3_setPolicy_82 : decode cX3_setPolicy 82 = .ok (.bipush 11, 2) := dk_16 11 (dk_at dksX3_setPolicy_3 10 rfl rfl)
theorem dX3_setPolicy_84 : decode cX3_setPolicy 84 = .ok (.aload_n 0, 1) := dk_42 (dk_at dksX3_setPolicy_3 12 rfl rfl)
theorem dX3_setPolicy_85 : decode cX3_setPolicy 85 = .ok (.getfield 201, 3) := dk_180 0 201 (dk_at dksX3_setPolicy_3 13 rfl rfl)
theorem dX3_setPolicy_88 : decode cX3_setPolicy 88 = .ok (.invokevirtual 53, 3) := dk_182 0 53 (dk_at dksX3_setPolicy_3 16 rfl rfl)
theorem dX3_setPolicy_91 : decode cX3_setPolicy 91 = .ok (.iconst 0, 1) := dk_3 (dk_at dksX3_setPolicy_3 19 rfl rfl)
theorem dX3_setPolicy_92 : decode cX3_setPolicy 92 = .ok (.istore 4, 2) := dk_54 4 (dk_at dksX3_setPolicy_3 20 rfl rfl)
theorem dX3_setPolicy_94 : decode cX3_setPolicy 94 = .ok (.iload 4, 2) := dk_21 4 (dk_at dksX3_setPolicy_3 22 rfl rfl)
theorem dX3_setPolicy_96 : decode cX3_setPolicy 96 = .ok (.aload_n 0, 1) := dk_42 (dk_at dksX3_setPolicy_4 0 rfl rfl)
theorem dX3_setPolicy_97 : decode cX3_setPolicy 97 = .ok (.getfield 201, 3) := dk_180 0 201 (dk_at dksX3_setPolicy_4 1 rfl rfl)
theorem dX3_setPolicy_100 : decode cX3_setPolicy 100 = .ok (.if_icmp .ge 26, 3) := dk_162 0 26 (dk_at dksX3_setPolicy_4 4 rfl rfl)
theorem dX3_setPolicy_103 : decode cX3_setPolicy 103 = .ok (.aload_n 0, 1) := dk_42 (dk_at dksX3_setPolicy_4 7 rfl rfl)
theorem dX3_setPolicy_104 : decode cX3_setPolicy 104 = .ok (.iload_n 1, 1) := dk_27 (dk_at dksX3_setPolicy_4 8 rfl rfl)
theorem dX3_setPolicy_105 : decode cX3_setPolicy 105 = .ok (.bipush 12, 2) := dk_16 12 (dk_at dksX3_setPolicy_4 9 rfl rfl)
theorem dX3_setPolicy_107 : decode cX3_setPolicy 107 = .ok (.iload 4, 2) := dk_21 4 (dk_at dksX3_setPolicy_4 11 rfl rfl)
theorem dX3_setPolicy_109 : decode cX3_setPolicy 109 = .ok (.iadd, 1) := dk_96 (dk_at dksX3_setPolicy_4 13 rfl rfl)
theorem dX3_setPolicy_110 : decode cX3_setPolicy 110 = .ok (.aload_n 0, 1) := dk_42 (dk_at dksX3_setPolicy_4 14 rfl rfl)
theorem dX3_setPolicy_111 : decode cX3_setPolicy 111 = .ok (.getfield 35, 3) := dk_180 0 35 (dk_at dksX3_setPolicy_4 15 rfl rfl)
theorem dX3_setPolicy_114 : decode cX3_setPolicy 114 = .ok (.iload 4, 2) := dk_21 4 (dk_at dksX3_setPolicy_4 18 rfl rfl)
theorem dX3_setPolicy_116 : decode cX3_setPolicy 116 = .ok (.caload, 1) := dk_52 (dk_at dksX3_setPolicy_4 20 rfl rfl)
theorem dX3_setPolicy_117 : decode cX3_setPolicy 117 = .ok (.invokevirtual 53, 3) := dk_182 0 53 (dk_at dksX3_setPolicy_4 21 rfl rfl)
theorem dX3_setPolicy_120 : decode cX3_setPolicy 120 = .ok (.iinc 4 1, 3) := dk_132 4 1 (dk_at dksX3_setPolicy_5 0 rfl rfl)
theorem dX3_setPolicy_123 : decode cX3_setPolicy 123 = .ok (.goto (-29), 3) := dk_167 255 227 (dk_at dksX3_setPolicy_5 3 rfl rfl)
theorem dX3_setPolicy_126 : decode cX3_setPolicy 126 = .ok (.aload_n 0, 1) := dk_42 (dk_at dksX3_setPolicy_5 6 rfl rfl)
theorem dX3_setPolicy_127 : decode cX3_setPolicy 127 = .ok (.iconst 0, 1) := dk_3 (dk_at dksX3_setPolicy_5 7 rfl rfl)
theorem dX3_setPolicy_128 : decode cX3_setPolicy 128 = .ok (.putfield 201, 3) := dk_181 0 201 (dk_at dksX3_setPolicy_5 8 rfl rfl)
theorem dX3_setPolicy_131 : decode cX3_setPolicy 131 = .ok (.aload_n 0, 1) := dk_42 (dk_at dksX3_setPolicy_5 11 rfl rfl)
theorem dX3_setPolicy_132 : decode cX3_setPolicy 132 = .ok (.iload_n 2, 1) := dk_28 (dk_at dksX3_setPolicy_5 12 rfl rfl)
theorem dX3_setPolicy_133 : decode cX3_setPolicy 133 = .ok (.ifCond .eq 7, 3) := dk_153 0 7 (dk_at dksX3_setPolicy_5 13 rfl rfl)
theorem dX3_setPolicy_136 : decode cX3_setPolicy 136 = .ok (.iconst 0, 1) := dk_3 (dk_at dksX3_setPolicy_5 16 rfl rfl)
theorem dX3_setPolicy_137 : decode cX3_setPolicy 137 = .ok (.goto 4, 3) := dk_167 0 4 (dk_at dksX3_setPolicy_5 17 rfl rfl)
theorem dX3_setPolicy_140 : decode cX3_setPolicy 140 = .ok (.iconst 3, 1) := dk_6 (dk_at dksX3_setPolicy_5 20 rfl rfl)
theorem dX3_setPolicy_141 : decode cX3_setPolicy 141 = .ok (.putfield 42, 3) := dk_181 0 42 (dk_at dksX3_setPolicy_5 21 rfl rfl)
theorem dX3_setPolicy_144 : decode cX3_setPolicy 144 = .ok (.iload_n 2, 1) := dk_28 (dk_at dksX3_setPolicy_6 0 rfl rfl)
theorem dX3_setPolicy_145 : decode cX3_setPolicy 145 = .ok (.ifCond .eq 11, 3) := dk_153 0 11 (dk_at dksX3_setPolicy_6 1 rfl rfl)
theorem dX3_setPolicy_148 : decode cX3_setPolicy 148 = .ok (.iload_n 3, 1) := dk_29 (dk_at dksX3_setPolicy_6 4 rfl rfl)
theorem dX3_setPolicy_149 : decode cX3_setPolicy 149 = .ok (.ifCond .eq 7, 3) := dk_153 0 7 (dk_at dksX3_setPolicy_6 5 rfl rfl)
theorem dX3_setPolicy_152 : decode cX3_setPolicy 152 = .ok (.iconst 1, 1) := dk_4 (dk_at dksX3_setPolicy_6 8 rfl rfl)
theorem dX3_setPolicy_153 : decode cX3_setPolicy 153 = .ok (.goto 4, 3) := dk_167 0 4 (dk_at dksX3_setPolicy_6 9 rfl rfl)
theorem dX3_setPolicy_156 : decode cX3_setPolicy 156 = .ok (.iconst 0, 1) := dk_3 (dk_at dksX3_setPolicy_6 12 rfl rfl)
theorem dX3_setPolicy_157 : decode cX3_setPolicy 157 = .ok (.ireturn, 1) := dk_172 (dk_at dksX3_setPolicy_6 13 rfl rfl)
abbrev cX3_readsPolicy : ByteArray := prog_27_method_75_code
def yX3_readsPolicy : MethodName := ⟨RX3, "readsPolicy", "(LSecretVaultModel;)Z"⟩
def dkwX3_readsPolicy_1 : List UInt8 := [167, 255, 238, 27, 172]
abbrev dktX3_readsPolicy_1 : List UInt8 := dkwX3_readsPolicy_1 ++ []
def dkwX3_readsPolicy_0 : List UInt8 := [42, 184, 0, 239, 60, 27, 153, 0, 20, 42, 16, 124, 182, 0, 219, 153, 0, 11, 42, 184, 0, 239, 60]
abbrev dktX3_readsPolicy_0 : List UInt8 := dkwX3_readsPolicy_0 ++ dktX3_readsPolicy_1
theorem dksX3_readsPolicy_0 : cX3_readsPolicy.data.toList.drop 0 = dktX3_readsPolicy_0 := by decide +kernel
theorem dksX3_readsPolicy_1 : cX3_readsPolicy.data.toList.drop 23 = dktX3_readsPolicy_1 := dk_seg dksX3_readsPolicy_0 23 rfl rfl
theorem dX3_readsPolicy_0 : decode cX3_readsPolicy 0 = .ok (.aload_n 0, 1) := dk_42 (dk_at dksX3_readsPolicy_0 0 rfl rfl)
theorem dX3_readsPolicy_1 : decode cX3_readsPolicy 1 = .ok (.invokestatic 239, 3) := dk_184 0 239 (dk_at dksX3_readsPolicy_0 1 rfl rfl)
theorem dX3_readsPolicy_4 : decode cX3_readsPolicy 4 = .ok (.istore_n 1, 1) := dk_60 (dk_at dksX3_readsPolicy_0 4 rfl rfl)
theorem dX3_readsPolicy_5 : decode cX3_readsPolicy 5 = .ok (.iload_n 1, 1) := dk_27 (dk_at dksX3_readsPolicy_0 5 rfl rfl)
theorem dX3_readsPolicy_6 : decode cX3_readsPolicy 6 = .ok (.ifCond .eq 20, 3) := dk_153 0 20 (dk_at dksX3_readsPolicy_0 6 rfl rfl)
theorem dX3_readsPolicy_9 : decode cX3_readsPolicy 9 = .ok (.aload_n 0, 1) := dk_42 (dk_at dksX3_readsPolicy_0 9 rfl rfl)
theorem dX3_readsPolicy_10 : decode cX3_readsPolicy 10 = .ok (.bipush 124, 2) := dk_16 124 (dk_at dksX3_readsPolicy_0 10 rfl rfl)
theorem dX3_readsPolicy_12 : decode cX3_readsPolicy 12 = .ok (.invokevirtual 219, 3) := dk_182 0 219 (dk_at dksX3_readsPolicy_0 12 rfl rfl)
theorem dX3_readsPolicy_15 : decode cX3_readsPolicy 15 = .ok (.ifCond .eq 11, 3) := dk_153 0 11 (dk_at dksX3_readsPolicy_0 15 rfl rfl)
theorem dX3_readsPolicy_18 : decode cX3_readsPolicy 18 = .ok (.aload_n 0, 1) := dk_42 (dk_at dksX3_readsPolicy_0 18 rfl rfl)
theorem dX3_readsPolicy_19 : decode cX3_readsPolicy 19 = .ok (.invokestatic 239, 3) := dk_184 0 239 (dk_at dksX3_readsPolicy_0 19 rfl rfl)
theorem dX3_readsPolicy_22 : decode cX3_readsPolicy 22 = .ok (.istore_n 1, 1) := dk_60 (dk_at dksX3_readsPolicy_0 22 rfl rfl)
theorem dX3_readsPolicy_23 : decode cX3_readsPolicy 23 = .ok (.goto (-18), 3) := dk_167 255 238 (dk_at dksX3_readsPolicy_1 0 rfl rfl)
theorem dX3_readsPolicy_26 : decode cX3_readsPolicy 26 = .ok (.iload_n 1, 1) := dk_27 (dk_at dksX3_readsPolicy_1 3 rfl rfl)
theorem dX3_readsPolicy_27 : decode cX3_readsPolicy 27 = .ok (.ireturn, 1) := dk_172 (dk_at dksX3_readsPolicy_1 4 rfl rfl)
abbrev cX3_readsAll : ByteArray := prog_27_method_74_code
def yX3_readsAll : MethodName := ⟨RX3, "readsAll", "(LSecretVaultModel;)Z"⟩
def dkwX3_readsAll_1 : List UInt8 := [167, 255, 238, 27, 172]
abbrev dktX3_readsAll_1 : List UInt8 := dkwX3_readsAll_1 ++ []
def dkwX3_readsAll_0 : List UInt8 := [42, 184, 0, 236, 60, 27, 153, 0, 20, 42, 16, 38, 182, 0, 219, 153, 0, 11, 42, 184, 0, 236, 60]
abbrev dktX3_readsAll_0 : List UInt8 := dkwX3_readsAll_0 ++ dktX3_readsAll_1
theorem dksX3_readsAll_0 : cX3_readsAll.data.toList.drop 0 = dktX3_readsAll_0 := by decide +kernel
theorem dksX3_readsAll_1 : cX3_readsAll.data.toList.drop 23 = dktX3_readsAll_1 := dk_seg dksX3_readsAll_0 23 rfl rfl
theorem dX3_readsAll_0 : decode cX3_readsAll 0 = .ok (.aload_n 0, 1) := dk_42 (dk_at dksX3_readsAll_0 0 rfl rfl)
theorem dX3_readsAll_1 : decode cX3_readsAll 1 = .ok (.invokestatic 236, 3) := dk_184 0 236 (dk_at dksX3_readsAll_0 1 rfl rfl)
theorem dX3_readsAll_4 : decode cX3_readsAll 4 = .ok (.istore_n 1, 1) := dk_60 (dk_at dksX3_readsAll_0 4 rfl rfl)
theorem dX3_readsAll_5 : decode cX3_readsAll 5 = .ok (.iload_n 1, 1) := dk_27 (dk_at dksX3_readsAll_0 5 rfl rfl)
theorem dX3_readsAll_6 : decode cX3_readsAll 6 = .ok (.ifCond .eq 20, 3) := dk_153 0 20 (dk_at dksX3_readsAll_0 6 rfl rfl)
theorem dX3_readsAll_9 : decode cX3_readsAll 9 = .ok (.aload_n 0, 1) := dk_42 (dk_at dksX3_readsAll_0 9 rfl rfl)
theorem dX3_readsAll_10 : decode cX3_readsAll 10 = .ok (.bipush 38, 2) := dk_16 38 (dk_at dksX3_readsAll_0 10 rfl rfl)
theorem dX3_readsAll_12 : decode cX3_readsAll 12 = .ok (.invokevirtual 219, 3) := dk_182 0 219 (dk_at dksX3_readsAll_0 12 rfl rfl)
theorem dX3_readsAll_15 : decode cX3_readsAll 15 = .ok (.ifCond .eq 11, 3) := dk_153 0 11 (dk_at dksX3_readsAll_0 15 rfl rfl)
theorem dX3_readsAll_18 : decode cX3_readsAll 18 = .ok (.aload_n 0, 1) := dk_42 (dk_at dksX3_readsAll_0 18 rfl rfl)
theorem dX3_readsAll_19 : decode cX3_readsAll 19 = .ok (.invokestatic 236, 3) := dk_184 0 236 (dk_at dksX3_readsAll_0 19 rfl rfl)
theorem dX3_readsAll_22 : decode cX3_readsAll 22 = .ok (.istore_n 1, 1) := dk_60 (dk_at dksX3_readsAll_0 22 rfl rfl)
theorem dX3_readsAll_23 : decode cX3_readsAll 23 = .ok (.goto (-18), 3) := dk_167 255 238 (dk_at dksX3_readsAll_1 0 rfl rfl)
theorem dX3_readsAll_26 : decode cX3_readsAll 26 = .ok (.iload_n 1, 1) := dk_27 (dk_at dksX3_readsAll_1 3 rfl rfl)
theorem dX3_readsAll_27 : decode cX3_readsAll 27 = .ok (.ireturn, 1) := dk_172 (dk_at dksX3_readsAll_1 4 rfl rfl)
abbrev cX3_readsPart : ByteArray := prog_27_method_73_code
def yX3_readsPart : MethodName := ⟨RX3, "readsPart", "(LSecretVaultModel;)Z"⟩
def dkwX3_readsPart_6 : List UInt8 := [3, 172, 42, 16, 41, 182, 0, 219, 172]
abbrev dktX3_readsPart_6 : List UInt8 := dkwX3_readsPart_6 ++ []
def dkwX3_readsPart_5 : List UInt8 := [184, 0, 232, 154, 0, 5, 3, 172, 42, 16, 44, 182, 0, 219, 153, 0, 12, 42, 184, 0, 232, 154, 255, 243]
abbrev dktX3_readsPart_5 : List UInt8 := dkwX3_readsPart_5 ++ dktX3_readsPart_6
def dkwX3_readsPart_4 : List UInt8 := [96, 181, 0, 204, 42, 16, 102, 182, 0, 219, 153, 0, 19, 42, 16, 40, 182, 0, 219, 153, 0, 10, 42]
abbrev dktX3_readsPart_4 : List UInt8 := dkwX3_readsPart_4 ++ dktX3_readsPart_5
def dkwX3_readsPart_3 : List UInt8 := [27, 16, 48, 160, 0, 15, 27, 16, 55, 163, 0, 7, 4, 167, 0, 4, 3, 172, 42, 89, 180, 0, 204, 4]
abbrev dktX3_readsPart_3 : List UInt8 := dkwX3_readsPart_3 ++ dktX3_readsPart_4
def dkwX3_readsPart_2 : List UInt8 := [154, 0, 5, 3, 172, 42, 89, 180, 0, 204, 4, 96, 181, 0, 204, 42, 182, 0, 207, 16, 111, 160, 0, 9]
abbrev dktX3_readsPart_2 : List UInt8 := dkwX3_readsPart_2 ++ dktX3_readsPart_3
def dkwX3_readsPart_1 : List UInt8 := [153, 0, 7, 4, 167, 0, 4, 3, 172, 42, 182, 0, 207, 60, 27, 16, 48, 16, 57, 184, 0, 45]
abbrev dktX3_readsPart_1 : List UInt8 := dkwX3_readsPart_1 ++ dktX3_readsPart_2
def dkwX3_readsPart_0 : List UInt8 := [42, 16, 40, 182, 0, 219, 153, 0, 25, 42, 184, 0, 232, 153, 0, 16, 42, 16, 41, 182, 0, 219]
abbrev dktX3_readsPart_0 : List UInt8 := dkwX3_readsPart_0 ++ dktX3_readsPart_1
theorem dksX3_readsPart_0 : cX3_readsPart.data.toList.drop 0 = dktX3_readsPart_0 := by decide +kernel
theorem dksX3_readsPart_1 : cX3_readsPart.data.toList.drop 22 = dktX3_readsPart_1 := dk_seg dksX3_readsPart_0 22 rfl rfl
theorem dksX3_readsPart_2 : cX3_readsPart.data.toList.drop 44 = dktX3_readsPart_2 := dk_seg dksX3_readsPart_1 22 rfl rfl
theorem dksX3_readsPart_3 : cX3_readsPart.data.toList.drop 68 = dktX3_readsPart_3 := dk_seg dksX3_readsPart_2 24 rfl rfl
theorem dksX3_readsPart_4 : cX3_readsPart.data.toList.drop 92 = dktX3_readsPart_4 := dk_seg dksX3_readsPart_3 24 rfl rfl
theorem dksX3_readsPart_5 : cX3_readsPart.data.toList.drop 115 = dktX3_readsPart_5 := dk_seg dksX3_readsPart_4 23 rfl rfl
theorem dksX3_readsPart_6 : cX3_readsPart.data.toList.drop 139 = dktX3_readsPart_6 := dk_seg dksX3_readsPart_5 24 rfl rfl
theorem dX3_readsPart_0 : decode cX3_readsPart 0 = .ok (.aload_n 0, 1) := dk_42 (dk_at dksX3_readsPart_0 0 rfl rfl)
theorem dX3_readsPart_1 : decode cX3_readsPart 1 = .ok (.bipush 40, 2) := dk_16 40 (dk_at dksX3_readsPart_0 1 rfl rfl)
theorem dX3_readsPart_3 : decode cX3_readsPart 3 = .ok (.invokevirtual 219, 3) := dk_182 0 219 (dk_at dksX3_readsPart_0 3 rfl rfl)
theorem dX3_readsPart_6 : decode cX3_readsPart 6 = .ok (.ifCond .eq 25, 3) := dk_153 0 25 (dk_at dksX3_readsPart_0 6 rfl rfl)
theorem dX3_readsPart_9 : decode cX3_readsPart 9 = .ok (.aload_n 0, 1) := dk_42 (dk_at dksX3_readsPart_0 9 rfl rfl)
theorem dX3_readsPart_10 : decode cX3_readsPart 10 = .ok (.invokestatic 232, 3) := dk_184 0 232 (dk_at dksX3_readsPart_0 10 rfl rfl)
theorem dX3_readsPart_13 : decode cX3_readsPart 13 = .ok (.ifCond .eq 16, 3) := dk_153 0 16 (dk_at dksX3_readsPart_0 13 rfl rfl)
theorem dX3_readsPart_16 : decode cX3_readsPart 16 = .ok (.aload_n 0, 1) := dk_42 (dk_at dksX3_readsPart_0 16 rfl rfl)
theorem dX3_readsPart_17 : decode cX3_readsPart 17 = .ok (.bipush 41, 2) := dk_16 41 (dk_at dksX3_readsPart_0 17 rfl rfl)
theorem dX3_readsPart_19 : decode cX3_readsPart 19 = .ok (.invokevirtual 219, 3) := dk_182 0 219 (dk_at dksX3_readsPart_0 19 rfl rfl)
theorem dX3_readsPart_22 : decode cX3_readsPart 22 = .ok (.ifCond .eq 7, 3) := dk_153 0 7 (dk_at dksX3_readsPart_1 0 rfl rfl)
theorem dX3_readsPart_25 : decode cX3_readsPart 25 = .ok (.iconst 1, 1) := dk_4 (dk_at dksX3_readsPart_1 3 rfl rfl)
theorem dX3_readsPart_26 : decode cX3_readsPart 26 = .ok (.goto 4, 3) := dk_167 0 4 (dk_at dksX3_readsPart_1 4 rfl rfl)
theorem dX3_readsPart_29 : decode cX3_readsPart 29 = .ok (.iconst 0, 1) := dk_3 (dk_at dksX3_readsPart_1 7 rfl rfl)
theorem dX3_readsPart_30 : decode cX3_readsPart 30 = .ok (.ireturn, 1) := dk_172 (dk_at dksX3_readsPart_1 8 rfl rfl)
theorem dX3_readsPart_31 : decode cX3_readsPart 31 = .ok (.aload_n 0, 1) := dk_42 (dk_at dksX3_readsPart_1 9 rfl rfl)
theorem dX3_readsPart_32 : decode cX3_readsPart 32 = .ok (.invokevirtual 207, 3) := dk_182 0 207 (dk_at dksX3_readsPart_1 10 rfl rfl)
theorem dX3_readsPart_35 : decode cX3_readsPart 35 = .ok (.istore_n 1, 1) := dk_60 (dk_at dksX3_readsPart_1 13 rfl rfl)
theorem dX3_readsPart_36 : decode cX3_readsPart 36 = .ok (.iload_n 1, 1) := dk_27 (dk_at dksX3_readsPart_1 14 rfl rfl)
theorem dX3_readsPart_37 : decode cX3_readsPart 37 = .ok (.bipush 48, 2) := dk_16 48 (dk_at dksX3_readsPart_1 15 rfl rfl)
theorem dX3_readsPart_39 : decode cX3_readsPart 39 = .ok (.bipush 57, 2) := dk_16 57 (dk_at dksX3_readsPart_1 17 rfl rfl)
theorem dX3_readsPart_41 : decode cX3_readsPart 41 = .ok (.invokestatic 45, 3) := dk_184 0 45 (dk_at dksX3_readsPart_1 19 rfl rfl)
theorem dX3_readsPart_44 : decode cX3_readsPart 44 = .ok (.ifCond .ne 5, 3) := dk_154 0 5 (dk_at dksX3_readsPart_2 0 rfl rfl)
theorem dX3_readsPart_47 : decode cX3_readsPart 47 = .ok (.iconst 0, 1) := dk_3 (dk_at dksX3_readsPart_2 3 rfl rfl)
theorem dX3_readsPart_48 : decode cX3_readsPart 48 = .ok (.ireturn, 1) := dk_172 (dk_at dksX3_readsPart_2 4 rfl rfl)
theorem dX3_readsPart_49 : decode cX3_readsPart 49 = .ok (.aload_n 0, 1) := dk_42 (dk_at dksX3_readsPart_2 5 rfl rfl)
theorem dX3_readsPart_50 : decode cX3_readsPart 50 = .ok (.dup, 1) := dk_89 (dk_at dksX3_readsPart_2 6 rfl rfl)
theorem dX3_readsPart_51 : decode cX3_readsPart 51 = .ok (.getfield 204, 3) := dk_180 0 204 (dk_at dksX3_readsPart_2 7 rfl rfl)
theorem dX3_readsPart_54 : decode cX3_readsPart 54 = .ok (.iconst 1, 1) := dk_4 (dk_at dksX3_readsPart_2 10 rfl rfl)
theorem dX3_readsPart_55 : decode cX3_readsPart 55 = .ok (.iadd, 1) := dk_96 (dk_at dksX3_readsPart_2 11 rfl rfl)
theorem dX3_readsPart_56 : decode cX3_readsPart 56 = .ok (.putfield 204, 3) := dk_181 0 204 (dk_at dksX3_readsPart_2 12 rfl rfl)
theorem dX3_readsPart_59 : decode cX3_readsPart 59 = .ok (.aload_n 0, 1) := dk_42 (dk_at dksX3_readsPart_2 15 rfl rfl)
theorem dX3_readsPart_60 : decode cX3_readsPart 60 = .ok (.invokevirtual 207, 3) := dk_182 0 207 (dk_at dksX3_readsPart_2 16 rfl rfl)
theorem dX3_readsPart_63 : decode cX3_readsPart 63 = .ok (.bipush 111, 2) := dk_16 111 (dk_at dksX3_readsPart_2 19 rfl rfl)
theorem dX3_readsPart_65 : decode cX3_readsPart 65 = .ok (.if_icmp .ne 9, 3) := dk_160 0 9 (dk_at dksX3_readsPart_2 21 rfl rfl)
theorem dX3_readsPart_68 : decode cX3_readsPart 68 = .ok (.iload_n 1, 1) := dk_27 (dk_at dksX3_readsPart_3 0 rfl rfl)
theorem dX3_readsPart_69 : decode cX3_readsPart 69 = .ok (.bipush 48, 2) := dk_16 48 (dk_at dksX3_readsPart_3 1 rfl rfl)
theorem dX3_readsPart_71 : decode cX3_readsPart 71 = .ok (.if_icmp .ne 15, 3) := dk_160 0 15 (dk_at dksX3_readsPart_3 3 rfl rfl)
theorem dX3_readsPart_74 : decode cX3_readsPart 74 = .ok (.iload_n 1, 1) := dk_27 (dk_at dksX3_readsPart_3 6 rfl rfl)
theorem dX3_readsPart_75 : decode cX3_readsPart 75 = .ok (.bipush 55, 2) := dk_16 55 (dk_at dksX3_readsPart_3 7 rfl rfl)
theorem dX3_readsPart_77 : decode cX3_readsPart 77 = .ok (.if_icmp .gt 7, 3) := dk_163 0 7 (dk_at dksX3_readsPart_3 9 rfl rfl)
theorem dX3_readsPart_80 : decode cX3_readsPart 80 = .ok (.iconst 1, 1) := dk_4 (dk_at dksX3_readsPart_3 12 rfl rfl)
theorem dX3_readsPart_81 : decode cX3_readsPart 81 = .ok (.goto 4, 3) := dk_167 0 4 (dk_at dksX3_readsPart_3 13 rfl rfl)
theorem dX3_readsPart_84 : decode cX3_readsPart 84 = .ok (.iconst 0, 1) := dk_3 (dk_at dksX3_readsPart_3 16 rfl rfl)
theorem dX3_readsPart_85 : decode cX3_readsPart 85 = .ok (.ireturn, 1) := dk_172 (dk_at dksX3_readsPart_3 17 rfl rfl)
theorem dX3_readsPart_86 : decode cX3_readsPart 86 = .ok (.aload_n 0, 1) := dk_42 (dk_at dksX3_readsPart_3 18 rfl rfl)
theorem dX3_readsPart_87 : decode cX3_readsPart 87 = .ok (.dup, 1) := dk_89 (dk_at dksX3_readsPart_3 19 rfl rfl)
theorem dX3_readsPart_88 : decode cX3_readsPart 88 = .ok (.getfield 204, 3) := dk_180 0 204 (dk_at dksX3_readsPart_3 20 rfl rfl)
theorem dX3_readsPart_91 : decode cX3_readsPart 91 = .ok (.iconst 1, 1) := dk_4 (dk_at dksX3_readsPart_3 23 rfl rfl)
theorem dX3_readsPart_92 : decode cX3_readsPart 92 = .ok (.iadd, 1) := dk_96 (dk_at dksX3_readsPart_4 0 rfl rfl)
theorem dX3_readsPart_93 : decode cX3_readsPart 93 = .ok (.putfield 204, 3) := dk_181 0 204 (dk_at dksX3_readsPart_4 1 rfl rfl)
theorem dX3_readsPart_96 : decode cX3_readsPart 96 = .ok (.aload_n 0, 1) := dk_42 (dk_at dksX3_readsPart_4 4 rfl rfl)
theorem dX3_readsPart_97 : decode cX3_readsPart 97 = .ok (.bipush 102, 2) := dk_16 102 (dk_at dksX3_readsPart_4 5 rfl rfl)
theorem dX3_readsPart_99 : decode cX3_readsPart 99 = .ok (.invokevirtual 219, 3) := dk_182 0 219 (dk_at dksX3_readsPart_4 7 rfl rfl)
theorem dX3_readsPart_102 : decode cX3_readsPart 102 = .ok (.ifCond .eq 19, 3) := dk_153 0 19 (dk_at dksX3_readsPart_4 10 rfl rfl)
theorem dX3_readsPart_105 : decode cX3_readsPart 105 = .ok (.aload_n 0, 1) := dk_42 (dk_at dksX3_readsPart_4 13 rfl rfl)
theorem dX3_readsPart_106 : decode cX3_readsPart 106 = .ok (.bipush 40, 2) := dk_16 40 (dk_at dksX3_readsPart_4 14 rfl rfl)
theorem dX3_readsPart_108 : decode cX3_readsPart 108 = .ok (.invokevirtual 219, 3) := dk_182 0 219 (dk_at dksX3_readsPart_4 16 rfl rfl)
theorem dX3_readsPart_111 : decode cX3_readsPart 111 = .ok (.ifCond .eq 10, 3) := dk_153 0 10 (dk_at dksX3_readsPart_4 19 rfl rfl)
theorem dX3_readsPart_114 : decode cX3_readsPart 114 = .ok (.aload_n 0, 1) := dk_42 (dk_at dksX3_readsPart_4 22 rfl rfl)
theorem dX3_readsPart_115 : decode cX3_readsPart 115 = .ok (.invokestatic 232, 3) := dk_184 0 232 (dk_at dksX3_readsPart_5 0 rfl rfl)
theorem dX3_readsPart_118 : decode cX3_readsPart 118 = .ok (.ifCond .ne 5, 3) := dk_154 0 5 (dk_at dksX3_readsPart_5 3 rfl rfl)
theorem dX3_readsPart_121 : decode cX3_readsPart 121 = .ok (.iconst 0, 1) := dk_3 (dk_at dksX3_readsPart_5 6 rfl rfl)
theorem dX3_readsPart_122 : decode cX3_readsPart 122 = .ok (.ireturn, 1) := dk_172 (dk_at dksX3_readsPart_5 7 rfl rfl)
theorem dX3_readsPart_123 : decode cX3_readsPart 123 = .ok (.aload_n 0, 1) := dk_42 (dk_at dksX3_readsPart_5 8 rfl rfl)
theorem dX3_readsPart_124 : decode cX3_readsPart 124 = .ok (.bipush 44, 2) := dk_16 44 (dk_at dksX3_readsPart_5 9 rfl rfl)
theorem dX3_readsPart_126 : decode cX3_readsPart 126 = .ok (.invokevirtual 219, 3) := dk_182 0 219 (dk_at dksX3_readsPart_5 11 rfl rfl)
theorem dX3_readsPart_129 : decode cX3_readsPart 129 = .ok (.ifCond .eq 12, 3) := dk_153 0 12 (dk_at dksX3_readsPart_5 14 rfl rfl)
theorem dX3_readsPart_132 : decode cX3_readsPart 132 = .ok (.aload_n 0, 1) := dk_42 (dk_at dksX3_readsPart_5 17 rfl rfl)
theorem dX3_readsPart_133 : decode cX3_readsPart 133 = .ok (.invokestatic 232, 3) := dk_184 0 232 (dk_at dksX3_readsPart_5 18 rfl rfl)
theorem dX3_readsPart_136 : decode cX3_readsPart 136 = .ok (.ifCond .ne (-13), 3) := dk_154 255 243 (dk_at dksX3_readsPart_5 21 rfl rfl)
theorem dX3_readsPart_139 : decode cX3_readsPart 139 = .ok (.iconst 0, 1) := dk_3 (dk_at dksX3_readsPart_6 0 rfl rfl)
theorem dX3_readsPart_140 : decode cX3_readsPart 140 = .ok (.ireturn, 1) := dk_172 (dk_at dksX3_readsPart_6 1 rfl rfl)
theorem dX3_readsPart_141 : decode cX3_readsPart 141 = .ok (.aload_n 0, 1) := dk_42 (dk_at dksX3_readsPart_6 2 rfl rfl)
theorem dX3_readsPart_142 : decode cX3_readsPart 142 = .ok (.bipush 41, 2) := dk_16 41 (dk_at dksX3_readsPart_6 3 rfl rfl)
theorem dX3_readsPart_144 : decode cX3_readsPart 144 = .ok (.invokevirtual 219, 3) := dk_182 0 219 (dk_at dksX3_readsPart_6 5 rfl rfl)
theorem dX3_readsPart_147 : decode cX3_readsPart 147 = .ok (.ireturn, 1) := dk_172 (dk_at dksX3_readsPart_6 8 rfl rfl)
abbrev cX3_errorPosition : ByteArray := prog_27_method_77_code
def yX3_errorPosition : MethodName := ⟨RX3, "errorPosition", "()I"⟩
def dkwX3_errorPosition_0 : List UInt8 := [42, 42, 180, 0, 38, 182, 0, 69, 172]
abbrev dktX3_errorPosition_0 : List UInt8 := dkwX3_errorPosition_0 ++ []
theorem dksX3_errorPosition_0 : cX3_errorPosition.data.toList.drop 0 = dktX3_errorPosition_0 := by decide +kernel
theorem dX3_errorPosition_0 : decode cX3_errorPosition 0 = .ok (.aload_n 0, 1) := dk_42 (dk_at dksX3_errorPosition_0 0 rfl rfl)
theorem dX3_errorPosition_1 : decode cX3_errorPosition 1 = .ok (.aload_n 0, 1) := dk_42 (dk_at dksX3_errorPosition_0 1 rfl rfl)
theorem dX3_errorPosition_2 : decode cX3_errorPosition 2 = .ok (.getfield 38, 3) := dk_180 0 38 (dk_at dksX3_errorPosition_0 2 rfl rfl)
theorem dX3_errorPosition_5 : decode cX3_errorPosition 5 = .ok (.invokevirtual 69, 3) := dk_182 0 69 (dk_at dksX3_errorPosition_0 5 rfl rfl)
theorem dX3_errorPosition_8 : decode cX3_errorPosition 8 = .ok (.ireturn, 1) := dk_172 (dk_at dksX3_errorPosition_0 8 rfl rfl)
abbrev cX3_fulfils : ByteArray := prog_27_method_78_code
def yX3_fulfils : MethodName := ⟨RX3, "fulfils", "(II)Z"⟩
def dkwX3_fulfils_1 : List UInt8 := [153, 0, 7, 4, 167, 0, 4, 3, 172]
abbrev dktX3_fulfils_1 : List UInt8 := dkwX3_fulfils_1 ++ []
def dkwX3_fulfils_0 : List UInt8 := [42, 42, 27, 28, 182, 0, 177, 181, 0, 42, 42, 180, 0, 42, 154, 0, 16, 42, 27, 28, 182, 0, 150]
abbrev dktX3_fulfils_0 : List UInt8 := dkwX3_fulfils_0 ++ dktX3_fulfils_1
theorem dksX3_fulfils_0 : cX3_fulfils.data.toList.drop 0 = dktX3_fulfils_0 := by decide +kernel
theorem dksX3_fulfils_1 : cX3_fulfils.data.toList.drop 23 = dktX3_fulfils_1 := dk_seg dksX3_fulfils_0 23 rfl rfl
theorem dX3_fulfils_0 : decode cX3_fulfils 0 = .ok (.aload_n 0, 1) := dk_42 (dk_at dksX3_fulfils_0 0 rfl rfl)
theorem dX3_fulfils_1 : decode cX3_fulfils 1 = .ok (.aload_n 0, 1) := dk_42 (dk_at dksX3_fulfils_0 1 rfl rfl)
theorem dX3_fulfils_2 : decode cX3_fulfils 2 = .ok (.iload_n 1, 1) := dk_27 (dk_at dksX3_fulfils_0 2 rfl rfl)
theorem dX3_fulfils_3 : decode cX3_fulfils 3 = .ok (.iload_n 2, 1) := dk_28 (dk_at dksX3_fulfils_0 3 rfl rfl)
theorem dX3_fulfils_4 : decode cX3_fulfils 4 = .ok (.invokevirtual 177, 3) := dk_182 0 177 (dk_at dksX3_fulfils_0 4 rfl rfl)
theorem dX3_fulfils_7 : decode cX3_fulfils 7 = .ok (.putfield 42, 3) := dk_181 0 42 (dk_at dksX3_fulfils_0 7 rfl rfl)
theorem dX3_fulfils_10 : decode cX3_fulfils 10 = .ok (.aload_n 0, 1) := dk_42 (dk_at dksX3_fulfils_0 10 rfl rfl)
theorem dX3_fulfils_11 : decode cX3_fulfils 11 = .ok (.getfield 42, 3) := dk_180 0 42 (dk_at dksX3_fulfils_0 11 rfl rfl)
theorem dX3_fulfils_14 : decode cX3_fulfils 14 = .ok (.ifCond .ne 16, 3) := dk_154 0 16 (dk_at dksX3_fulfils_0 14 rfl rfl)
theorem dX3_fulfils_17 : decode cX3_fulfils 17 = .ok (.aload_n 0, 1) := dk_42 (dk_at dksX3_fulfils_0 17 rfl rfl)
theorem dX3_fulfils_18 : decode cX3_fulfils 18 = .ok (.iload_n 1, 1) := dk_27 (dk_at dksX3_fulfils_0 18 rfl rfl)
theorem dX3_fulfils_19 : decode cX3_fulfils 19 = .ok (.iload_n 2, 1) := dk_28 (dk_at dksX3_fulfils_0 19 rfl rfl)
theorem dX3_fulfils_20 : decode cX3_fulfils 20 = .ok (.invokevirtual 150, 3) := dk_182 0 150 (dk_at dksX3_fulfils_0 20 rfl rfl)
theorem dX3_fulfils_23 : decode cX3_fulfils 23 = .ok (.ifCond .eq 7, 3) := dk_153 0 7 (dk_at dksX3_fulfils_1 0 rfl rfl)
theorem dX3_fulfils_26 : decode cX3_fulfils 26 = .ok (.iconst 1, 1) := dk_4 (dk_at dksX3_fulfils_1 3 rfl rfl)
theorem dX3_fulfils_27 : decode cX3_fulfils 27 = .ok (.goto 4, 3) := dk_167 0 4 (dk_at dksX3_fulfils_1 4 rfl rfl)
theorem dX3_fulfils_30 : decode cX3_fulfils 30 = .ok (.iconst 0, 1) := dk_3 (dk_at dksX3_fulfils_1 7 rfl rfl)
theorem dX3_fulfils_31 : decode cX3_fulfils 31 = .ok (.ireturn, 1) := dk_172 (dk_at dksX3_fulfils_1 8 rfl rfl)
abbrev cX3_policyText : ByteArray := prog_27_method_82_code
def yX3_policyText : MethodName := ⟨RX3, "policyText", "(II)I"⟩
def dkwX3_policyText_2 : List UInt8 := [3, 42, 27, 16, 11, 182, 0, 49, 184, 0, 242, 42, 28, 182, 0, 198, 172]
abbrev dktX3_policyText_2 : List UInt8 := dkwX3_policyText_2 ++ []
def dkwX3_policyText_1 : List UInt8 := [153, 0, 11, 42, 27, 182, 0, 140, 154, 0, 9, 42, 5, 182, 0, 80, 172, 42, 3, 181, 0, 186, 42, 27]
abbrev dktX3_policyText_1 : List UInt8 := dkwX3_policyText_1 ++ dktX3_policyText_2
def dkwX3_policyText_0 : List UInt8 := [27, 184, 0, 107, 153, 0, 8, 28, 2, 162, 0, 9, 42, 4, 182, 0, 80, 172, 42, 27, 3, 182, 0, 49]
abbrev dktX3_policyText_0 : List UInt8 := dkwX3_policyText_0 ++ dktX3_policyText_1
theorem dksX3_policyText_0 : cX3_policyText.data.toList.drop 0 = dktX3_policyText_0 := by decide +kernel
theorem dksX3_policyText_1 : cX3_policyText.data.toList.drop 24 = dktX3_policyText_1 := dk_seg dksX3_policyText_0 24 rfl rfl
theorem dksX3_policyText_2 : cX3_policyText.data.toList.drop 48 = dktX3_policyText_2 := dk_seg dksX3_policyText_1 24 rfl rfl
theorem dX3_policyText_0 : decode cX3_policyText 0 = .ok (.iload_n 1, 1) := dk_27 (dk_at dksX3_policyText_0 0 rfl rfl)
theorem dX3_policyText_1 : decode cX3_policyText 1 = .ok (.invokestatic 107, 3) := dk_184 0 107 (dk_at dksX3_policyText_0 1 rfl rfl)
theorem dX3_policyText_4 : decode cX3_policyText 4 = .ok (.ifCond .eq 8, 3) := dk_153 0 8 (dk_at dksX3_policyText_0 4 rfl rfl)
theorem dX3_policyText_7 : decode cX3_policyText 7 = .ok (.iload_n 2, 1) := dk_28 (dk_at dksX3_policyText_0 7 rfl rfl)
theorem dX3_policyText_8 : decode cX3_policyText 8 = .ok (.iconst (-1), 1) := dk_2 (dk_at dksX3_policyText_0 8 rfl rfl)
theorem dX3_policyText_9 : decode cX3_policyText 9 = .ok (.if_icmp .ge 9, 3) := dk_162 0 9 (dk_at dksX3_policyText_0 9 rfl rfl)
theorem dX3_policyText_12 : decode cX3_policyText 12 = .ok (.aload_n 0, 1) := dk_42 (dk_at dksX3_policyText_0 12 rfl rfl)
theorem dX3_policyText_13 : decode cX3_policyText 13 = .ok (.iconst 1, 1) := dk_4 (dk_at dksX3_policyText_0 13 rfl rfl)
theorem dX3_policyText_14 : decode cX3_policyText 14 = .ok (.invokevirtual 80, 3) := dk_182 0 80 (dk_at dksX3_policyText_0 14 rfl rfl)
theorem dX3_policyText_17 : decode cX3_policyText 17 = .ok (.ireturn, 1) := dk_172 (dk_at dksX3_policyText_0 17 rfl rfl)
theorem dX3_policyText_18 : decode cX3_policyText 18 = .ok (.aload_n 0, 1) := dk_42 (dk_at dksX3_policyText_0 18 rfl rfl)
theorem dX3_policyText_19 : decode cX3_policyText 19 = .ok (.iload_n 1, 1) := dk_27 (dk_at dksX3_policyText_0 19 rfl rfl)
theorem dX3_policyText_20 : decode cX3_policyText 20 = .ok (.iconst 0, 1) := dk_3 (dk_at dksX3_policyText_0 20 rfl rfl)
theorem dX3_policyText_21 : decode cX3_policyText 21 = .ok (.invokevirtual 49, 3) := dk_182 0 49 (dk_at dksX3_policyText_0 21 rfl rfl)
theorem dX3_policyText_24 : decode cX3_policyText 24 = .ok (.ifCond .eq 11, 3) := dk_153 0 11 (dk_at dksX3_policyText_1 0 rfl rfl)
theorem dX3_policyText_27 : decode cX3_policyText 27 = .ok (.aload_n 0, 1) := dk_42 (dk_at dksX3_policyText_1 3 rfl rfl)
theorem dX3_policyText_28 : decode cX3_policyText 28 = .ok (.iload_n 1, 1) := dk_27 (dk_at dksX3_policyText_1 4 rfl rfl)
theorem dX3_policyText_29 : decode cX3_policyText 29 = .ok (.invokevirtual 140, 3) := dk_182 0 140 (dk_at dksX3_policyText_1 5 rfl rfl)
theorem dX3_policyText_32 : decode cX3_policyText 32 = .ok (.ifCond .ne 9, 3) := dk_154 0 9 (dk_at dksX3_policyText_1 8 rfl rfl)
theorem dX3_policyText_35 : decode cX3_policyText 35 = .ok (.aload_n 0, 1) := dk_42 (dk_at dksX3_policyText_1 11 rfl rfl)
theorem dX3_policyText_36 : decode cX3_policyText 36 = .ok (.iconst 2, 1) := dk_5 (dk_at dksX3_policyText_1 12 rfl rfl)
theorem dX3_policyText_37 : decode cX3_policyText 37 = .ok (.invokevirtual 80, 3) := dk_182 0 80 (dk_at dksX3_policyText_1 13 rfl rfl)
theorem dX3_policyText_40 : decode cX3_policyText 40 = .ok (.ireturn, 1) := dk_172 (dk_at dksX3_policyText_1 16 rfl rfl)
theorem dX3_policyText_41 : decode cX3_policyText 41 = .ok (.aload_n 0, 1) := dk_42 (dk_at dksX3_policyText_1 17 rfl rfl)
theorem dX3_policyText_42 : decode cX3_policyText 42 = .ok (.iconst 0, 1) := dk_3 (dk_at dksX3_policyText_1 18 rfl rfl)
theorem dX3_policyText_43 : decode cX3_policyText 43 = .ok (.putfield 186, 3) := dk_181 0 186 (dk_at dksX3_policyText_1 19 rfl rfl)
theorem dX3_policyText_46 : decode cX3_policyText 46 = .ok (.aload_n 0, 1) := dk_42 (dk_at dksX3_policyText_1 22 rfl rfl)
theorem dX3_policyText_47 : decode cX3_policyText 47 = .ok (.iload_n 1, 1) := dk_27 (dk_at dksX3_policyText_1 23 rfl rfl)
theorem dX3_policyText_48 : decode cX3_policyText 48 = .ok (.iconst 0, 1) := dk_3 (dk_at dksX3_policyText_2 0 rfl rfl)
theorem dX3_policyText_49 : decode cX3_policyText 49 = .ok (.aload_n 0, 1) := dk_42 (dk_at dksX3_policyText_2 1 rfl rfl)
theorem dX3_policyText_50 : decode cX3_policyText 50 = .ok (.iload_n 1, 1) := dk_27 (dk_at dksX3_policyText_2 2 rfl rfl)
theorem dX3_policyText_51 : decode cX3_policyText 51 = .ok (.bipush 11, 2) := dk_16 11 (dk_at dksX3_policyText_2 3 rfl rfl)
theorem dX3_policyText_53 : decode cX3_policyText 53 = .ok (.invokevirtual 49, 3) := dk_182 0 49 (dk_at dksX3_policyText_2 5 rfl rfl)
theorem dX3_policyText_56 : decode cX3_policyText 56 = .ok (.invokestatic 242, 3) := dk_184 0 242 (dk_at dksX3_policyText_2 8 rfl rfl)
theorem dX3_policyText_59 : decode cX3_policyText 59 = .ok (.aload_n 0, 1) := dk_42 (dk_at dksX3_policyText_2 11 rfl rfl)
theorem dX3_policyText_60 : decode cX3_policyText 60 = .ok (.iload_n 2, 1) := dk_28 (dk_at dksX3_policyText_2 12 rfl rfl)
theorem dX3_policyText_61 : decode cX3_policyText 61 = .ok (.invokevirtual 198, 3) := dk_182 0 198 (dk_at dksX3_policyText_2 13 rfl rfl)
theorem dX3_policyText_64 : decode cX3_policyText 64 = .ok (.ireturn, 1) := dk_172 (dk_at dksX3_policyText_2 16 rfl rfl)
abbrev cX3_writesPolicy : ByteArray := prog_27_method_81_code
def yX3_writesPolicy : MethodName := ⟨RX3, "writesPolicy", "(LSecretVaultModel;III)V"⟩
def dkwX3_writesPolicy_2 : List UInt8 := [54, 4, 167, 255, 210, 177]
abbrev dktX3_writesPolicy_2 : List UInt8 := dkwX3_writesPolicy_2 ++ []
def dkwX3_writesPolicy_1 : List UInt8 := [21, 4, 21, 5, 3, 184, 0, 246, 21, 5, 29, 162, 0, 9, 42, 16, 124, 182, 0, 189, 21, 5, 4, 96]
abbrev dktX3_writesPolicy_1 : List UInt8 := dkwX3_writesPolicy_1 ++ dktX3_writesPolicy_2
def dkwX3_writesPolicy_0 : List UInt8 := [28, 54, 4, 21, 4, 29, 162, 0, 46, 42, 27, 21, 4, 29, 16, 124, 182, 0, 130, 54, 5, 42, 27]
abbrev dktX3_writesPolicy_0 : List UInt8 := dkwX3_writesPolicy_0 ++ dktX3_writesPolicy_1
theorem dksX3_writesPolicy_0 : cX3_writesPolicy.data.toList.drop 0 = dktX3_writesPolicy_0 := by decide +kernel
theorem dksX3_writesPolicy_1 : cX3_writesPolicy.data.toList.drop 23 = dktX3_writesPolicy_1 := dk_seg dksX3_writesPolicy_0 23 rfl rfl
theorem dksX3_writesPolicy_2 : cX3_writesPolicy.data.toList.drop 47 = dktX3_writesPolicy_2 := dk_seg dksX3_writesPolicy_1 24 rfl rfl
theorem dX3_writesPolicy_0 : decode cX3_writesPolicy 0 = .ok (.iload_n 2, 1) := dk_28 (dk_at dksX3_writesPolicy_0 0 rfl rfl)
theorem dX3_writesPolicy_1 : decode cX3_writesPolicy 1 = .ok (.istore 4, 2) := dk_54 4 (dk_at dksX3_writesPolicy_0 1 rfl rfl)
theorem dX3_writesPolicy_3 : decode cX3_writesPolicy 3 = .ok (.iload 4, 2) := dk_21 4 (dk_at dksX3_writesPolicy_0 3 rfl rfl)
theorem dX3_writesPolicy_5 : decode cX3_writesPolicy 5 = .ok (.iload_n 3, 1) := dk_29 (dk_at dksX3_writesPolicy_0 5 rfl rfl)
theorem dX3_writesPolicy_6 : decode cX3_writesPolicy 6 = .ok (.if_icmp .ge 46, 3) := dk_162 0 46 (dk_at dksX3_writesPolicy_0 6 rfl rfl)
theorem dX3_writesPolicy_9 : decode cX3_writesPolicy 9 = .ok (.aload_n 0, 1) := dk_42 (dk_at dksX3_writesPolicy_0 9 rfl rfl)
theorem dX3_writesPolicy_10 : decode cX3_writesPolicy 10 = .ok (.iload_n 1, 1) := dk_27 (dk_at dksX3_writesPolicy_0 10 rfl rfl)
theorem dX3_writesPolicy_11 : decode cX3_writesPolicy 11 = .ok (.iload 4, 2) := dk_21 4 (dk_at dksX3_writesPolicy_0 11 rfl rfl)
theorem dX3_writesPolicy_13 : decode cX3_writesPolicy 13 = .ok (.iload_n 3, 1) := dk_29 (dk_at dksX3_writesPolicy_0 13 rfl rfl)
theorem dX3_writesPolicy_14 : decode cX3_writesPolicy 14 = .ok (.bipush 124, 2) := dk_16 124 (dk_at dksX3_writesPolicy_0 14 rfl rfl)
theorem dX3_writesPolicy_16 : decode cX3_writesPolicy 16 = .ok (.invokevirtual 130, 3) := dk_182 0 130 (dk_at dksX3_writesPolicy_0 16 rfl rfl)
theorem dX3_writesPolicy_19 : decode cX3_writesPolicy 19 = .ok (.istore 5, 2) := dk_54 5 (dk_at dksX3_writesPolicy_0 19 rfl rfl)
theorem dX3_writesPolicy_21 : decode cX3_writesPolicy 21 = .ok (.aload_n 0, 1) := dk_42 (dk_at dksX3_writesPolicy_0 21 rfl rfl)
theorem dX3_writesPolicy_22 : decode cX3_writesPolicy 22 = .ok (.iload_n 1, 1) := dk_27 (dk_at dksX3_writesPolicy_0 22 rfl rfl)
theorem dX3_writesPolicy_23 : decode cX3_writesPolicy 23 = .ok (.iload 4, 2) := dk_21 4 (dk_at dksX3_writesPolicy_1 0 rfl rfl)
theorem dX3_writesPolicy_25 : decode cX3_writesPolicy 25 = .ok (.iload 5, 2) := dk_21 5 (dk_at dksX3_writesPolicy_1 2 rfl rfl)
theorem dX3_writesPolicy_27 : decode cX3_writesPolicy 27 = .ok (.iconst 0, 1) := dk_3 (dk_at dksX3_writesPolicy_1 4 rfl rfl)
theorem dX3_writesPolicy_28 : decode cX3_writesPolicy 28 = .ok (.invokestatic 246, 3) := dk_184 0 246 (dk_at dksX3_writesPolicy_1 5 rfl rfl)
theorem dX3_writesPolicy_31 : decode cX3_writesPolicy 31 = .ok (.iload 5, 2) := dk_21 5 (dk_at dksX3_writesPolicy_1 8 rfl rfl)
theorem dX3_writesPolicy_33 : decode cX3_writesPolicy 33 = .ok (.iload_n 3, 1) := dk_29 (dk_at dksX3_writesPolicy_1 10 rfl rfl)
theorem dX3_writesPolicy_34 : decode cX3_writesPolicy 34 = .ok (.if_icmp .ge 9, 3) := dk_162 0 9 (dk_at dksX3_writesPolicy_1 11 rfl rfl)
theorem dX3_writesPolicy_37 : decode cX3_writesPolicy 37 = .ok (.aload_n 0, 1) := dk_42 (dk_at dksX3_writesPolicy_1 14 rfl rfl)
theorem dX3_writesPolicy_38 : decode cX3_writesPolicy 38 = .ok (.bipush 124, 2) := dk_16 124 (dk_at dksX3_writesPolicy_1 15 rfl rfl)
theorem dX3_writesPolicy_40 : decode cX3_writesPolicy 40 = .ok (.invokevirtual 189, 3) := dk_182 0 189 (dk_at dksX3_writesPolicy_1 17 rfl rfl)
theorem dX3_writesPolicy_43 : decode cX3_writesPolicy 43 = .ok (.iload 5, 2) := dk_21 5 (dk_at dksX3_writesPolicy_1 20 rfl rfl)
theorem dX3_writesPolicy_45 : decode cX3_writesPolicy 45 = .ok (.iconst 1, 1) := dk_4 (dk_at dksX3_writesPolicy_1 22 rfl rfl)
theorem dX3_writesPolicy_46 : decode cX3_writesPolicy 46 = .ok (.iadd, 1) := dk_96 (dk_at dksX3_writesPolicy_1 23 rfl rfl)
theorem dX3_writesPolicy_47 : decode cX3_writesPolicy 47 = .ok (.istore 4, 2) := dk_54 4 (dk_at dksX3_writesPolicy_2 0 rfl rfl)
theorem dX3_writesPolicy_49 : decode cX3_writesPolicy 49 = .ok (.goto (-46), 3) := dk_167 255 210 (dk_at dksX3_writesPolicy_2 2 rfl rfl)
theorem dX3_writesPolicy_52 : decode cX3_writesPolicy 52 = .ok (.return_, 1) := dk_177 (dk_at dksX3_writesPolicy_2 5 rfl rfl)
abbrev cX3_writesAll : ByteArray := prog_27_method_80_code
def yX3_writesAll : MethodName := ⟨RX3, "writesAll", "(LSecretVaultModel;IIIZ)V"⟩
def dkwX3_writesAll_3 : List UInt8 := [29, 162, 0, 9, 42, 16, 38, 182, 0, 189, 21, 8, 4, 96, 54, 7, 167, 255, 196, 177]
abbrev dktX3_writesAll_3 : List UInt8 := dkwX3_writesAll_3 ++ []
def dkwX3_writesAll_2 : List UInt8 := [21, 7, 21, 8, 21, 6, 154, 0, 8, 21, 4, 153, 0, 7, 4, 167, 0, 4, 3, 184, 0, 250, 21, 8]
abbrev dktX3_writesAll_2 : List UInt8 := dkwX3_writesAll_2 ++ dktX3_writesAll_3
def dkwX3_writesAll_1 : List UInt8 := [28, 54, 7, 21, 7, 29, 162, 0, 60, 42, 27, 21, 7, 29, 16, 38, 182, 0, 130, 54, 8, 42, 27]
abbrev dktX3_writesAll_1 : List UInt8 := dkwX3_writesAll_1 ++ dktX3_writesAll_2
def dkwX3_writesAll_0 : List UInt8 := [42, 27, 28, 29, 16, 38, 182, 0, 130, 54, 5, 21, 5, 29, 162, 0, 7, 4, 167, 0, 4, 3, 54, 6]
abbrev dktX3_writesAll_0 : List UInt8 := dkwX3_writesAll_0 ++ dktX3_writesAll_1
theorem dksX3_writesAll_0 : cX3_writesAll.data.toList.drop 0 = dktX3_writesAll_0 := by decide +kernel
theorem dksX3_writesAll_1 : cX3_writesAll.data.toList.drop 24 = dktX3_writesAll_1 := dk_seg dksX3_writesAll_0 24 rfl rfl
theorem dksX3_writesAll_2 : cX3_writesAll.data.toList.drop 47 = dktX3_writesAll_2 := dk_seg dksX3_writesAll_1 23 rfl rfl
theorem dksX3_writesAll_3 : cX3_writesAll.data.toList.drop 71 = dktX3_writesAll_3 := dk_seg dksX3_writesAll_2 24 rfl rfl
theorem dX3_writesAll_0 : decode cX3_writesAll 0 = .ok (.aload_n 0, 1) := dk_42 (dk_at dksX3_writesAll_0 0 rfl rfl)
theorem dX3_writesAll_1 : decode cX3_writesAll 1 = .ok (.iload_n 1, 1) := dk_27 (dk_at dksX3_writesAll_0 1 rfl rfl)
theorem dX3_writesAll_2 : decode cX3_writesAll 2 = .ok (.iload_n 2, 1) := dk_28 (dk_at dksX3_writesAll_0 2 rfl rfl)
theorem dX3_writesAll_3 : decode cX3_writesAll 3 = .ok (.iload_n 3, 1) := dk_29 (dk_at dksX3_writesAll_0 3 rfl rfl)
theorem dX3_writesAll_4 : decode cX3_writesAll 4 = .ok (.bipush 38, 2) := dk_16 38 (dk_at dksX3_writesAll_0 4 rfl rfl)
theorem dX3_writesAll_6 : decode cX3_writesAll 6 = .ok (.invokevirtual 130, 3) := dk_182 0 130 (dk_at dksX3_writesAll_0 6 rfl rfl)
theorem dX3_writesAll_9 : decode cX3_writesAll 9 = .ok (.istore 5, 2) := dk_54 5 (dk_at dksX3_writesAll_0 9 rfl rfl)
theorem dX3_writesAll_11 : decode cX3_writesAll 11 = .ok (.iload 5, 2) := dk_21 5 (dk_at dksX3_writesAll_0 11 rfl rfl)
theorem dX3_writesAll_13 : decode cX3_writesAll 13 = .ok (.iload_n 3, 1) := dk_29 (dk_at dksX3_writesAll_0 13 rfl rfl)
theorem dX3_writesAll_14 : decode cX3_writesAll 14 = .ok (.if_icmp .ge 7, 3) := dk_162 0 7 (dk_at dksX3_writesAll_0 14 rfl rfl)
theorem dX3_writesAll_17 : decode cX3_writesAll 17 = .ok (.iconst 1, 1) := dk_4 (dk_at dksX3_writesAll_0 17 rfl rfl)
theorem dX3_writesAll_18 : decode cX3_writesAll 18 = .ok (.goto 4, 3) := dk_167 0 4 (dk_at dksX3_writesAll_0 18 rfl rfl)
theorem dX3_writesAll_21 : decode cX3_writesAll 21 = .ok (.iconst 0, 1) := dk_3 (dk_at dksX3_writesAll_0 21 rfl rfl)
theorem dX3_writesAll_22 : decode cX3_writesAll 22 = .ok (.istore 6, 2) := dk_54 6 (dk_at dksX3_writesAll_0 22 rfl rfl)
theorem dX3_writesAll_24 : decode cX3_writesAll 24 = .ok (.iload_n 2, 1) := dk_28 (dk_at dksX3_writesAll_1 0 rfl rfl)
theorem dX3_writesAll_25 : decode cX3_writesAll 25 = .ok (.istore 7, 2) := dk_54 7 (dk_at dksX3_writesAll_1 1 rfl rfl)
theorem dX3_writesAll_27 : decode cX3_writesAll 27 = .ok (.iload 7, 2) := dk_21 7 (dk_at dksX3_writesAll_1 3 rfl rfl)
theorem dX3_writesAll_29 : decode cX3_writesAll 29 = .ok (.iload_n 3, 1) := dk_29 (dk_at dksX3_writesAll_1 5 rfl rfl)
theorem dX3_writesAll_30 : decode cX3_writesAll 30 = .ok (.if_icmp .ge 60, 3) := dk_162 0 60 (dk_at dksX3_writesAll_1 6 rfl rfl)
theorem dX3_writesAll_33 : decode cX3_writesAll 33 = .ok (.aload_n 0, 1) := dk_42 (dk_at dksX3_writesAll_1 9 rfl rfl)
theorem dX3_writesAll_34 : decode cX3_writesAll 34 = .ok (.iload_n 1, 1) := dk_27 (dk_at dksX3_writesAll_1 10 rfl rfl)
theorem dX3_writesAll_35 : decode cX3_writesAll 35 = .ok (.iload 7, 2) := dk_21 7 (dk_at dksX3_writesAll_1 11 rfl rfl)
theorem dX3_writesAll_37 : decode cX3_writesAll 37 = .ok (.iload_n 3, 1) := dk_29 (dk_at dksX3_writesAll_1 13 rfl rfl)
theorem dX3_writesAll_38 : decode cX3_writesAll 38 = .ok (.bipush 38, 2) := dk_16 38 (dk_at dksX3_writesAll_1 14 rfl rfl)
theorem dX3_writesAll_40 : decode cX3_writesAll 40 = .ok (.invokevirtual 130, 3) := dk_182 0 130 (dk_at dksX3_writesAll_1 16 rfl rfl)
theorem dX3_writesAll_43 : decode cX3_writesAll 43 = .ok (.istore 8, 2) := dk_54 8 (dk_at dksX3_writesAll_1 19 rfl rfl)
theorem dX3_writesAll_45 : decode cX3_writesAll 45 = .ok (.aload_n 0, 1) := dk_42 (dk_at dksX3_writesAll_1 21 rfl rfl)
theorem dX3_writesAll_46 : decode cX3_writesAll 46 = .ok (.iload_n 1, 1) := dk_27 (dk_at dksX3_writesAll_1 22 rfl rfl)
theorem dX3_writesAll_47 : decode cX3_writesAll 47 = .ok (.iload 7, 2) := dk_21 7 (dk_at dksX3_writesAll_2 0 rfl rfl)
theorem dX3_writesAll_49 : decode cX3_writesAll 49 = .ok (.iload 8, 2) := dk_21 8 (dk_at dksX3_writesAll_2 2 rfl rfl)
theorem dX3_writesAll_51 : decode cX3_writesAll 51 = .ok (.iload 6, 2) := dk_21 6 (dk_at dksX3_writesAll_2 4 rfl rfl)
theorem dX3_writesAll_53 : decode cX3_writesAll 53 = .ok (.ifCond .ne 8, 3) := dk_154 0 8 (dk_at dksX3_writesAll_2 6 rfl rfl)
theorem dX3_writesAll_56 : decode cX3_writesAll 56 = .ok (.iload 4, 2) := dk_21 4 (dk_at dksX3_writesAll_2 9 rfl rfl)
theorem dX3_writesAll_58 : decode cX3_writesAll 58 = .ok (.ifCond .eq 7, 3) := dk_153 0 7 (dk_at dksX3_writesAll_2 11 rfl rfl)
theorem dX3_writesAll_61 : decode cX3_writesAll 61 = .ok (.iconst 1, 1) := dk_4 (dk_at dksX3_writesAll_2 14 rfl rfl)
theorem dX3_writesAll_62 : decode cX3_writesAll 62 = .ok (.goto 4, 3) := dk_167 0 4 (dk_at dksX3_writesAll_2 15 rfl rfl)
theorem dX3_writesAll_65 : decode cX3_writesAll 65 = .ok (.iconst 0, 1) := dk_3 (dk_at dksX3_writesAll_2 18 rfl rfl)
theorem dX3_writesAll_66 : decode cX3_writesAll 66 = .ok (.invokestatic 250, 3) := dk_184 0 250 (dk_at dksX3_writesAll_2 19 rfl rfl)
theorem dX3_writesAll_69 : decode cX3_writesAll 69 = .ok (.iload 8, 2) := dk_21 8 (dk_at dksX3_writesAll_2 22 rfl rfl)
theorem dX3_writesAll_71 : decode cX3_writesAll 71 = .ok (.iload_n 3, 1) := dk_29 (dk_at dksX3_writesAll_3 0 rfl rfl)
theorem dX3_writesAll_72 : decode cX3_writesAll 72 = .ok (.if_icmp .ge 9, 3) := dk_162 0 9 (dk_at dksX3_writesAll_3 1 rfl rfl)
theorem dX3_writesAll_75 : decode cX3_writesAll 75 = .ok (.aload_n 0, 1) := dk_42 (dk_at dksX3_writesAll_3 4 rfl rfl)
theorem dX3_writesAll_76 : decode cX3_writesAll 76 = .ok (.bipush 38, 2) := dk_16 38 (dk_at dksX3_writesAll_3 5 rfl rfl)
theorem dX3_writesAll_78 : decode cX3_writesAll 78 = .ok (.invokevirtual 189, 3) := dk_182 0 189 (dk_at dksX3_writesAll_3 7 rfl rfl)
theorem dX3_writesAll_81 : decode cX3_writesAll 81 = .ok (.iload 8, 2) := dk_21 8 (dk_at dksX3_writesAll_3 10 rfl rfl)
theorem dX3_writesAll_83 : decode cX3_writesAll 83 = .ok (.iconst 1, 1) := dk_4 (dk_at dksX3_writesAll_3 12 rfl rfl)
theorem dX3_writesAll_84 : decode cX3_writesAll 84 = .ok (.iadd, 1) := dk_96 (dk_at dksX3_writesAll_3 13 rfl rfl)
theorem dX3_writesAll_85 : decode cX3_writesAll 85 = .ok (.istore 7, 2) := dk_54 7 (dk_at dksX3_writesAll_3 14 rfl rfl)
theorem dX3_writesAll_87 : decode cX3_writesAll 87 = .ok (.goto (-60), 3) := dk_167 255 196 (dk_at dksX3_writesAll_3 16 rfl rfl)
theorem dX3_writesAll_90 : decode cX3_writesAll 90 = .ok (.return_, 1) := dk_177 (dk_at dksX3_writesAll_3 19 rfl rfl)
abbrev cX3_writesPart : ByteArray := prog_27_method_79_code
def yX3_writesPart : MethodName := ⟨RX3, "writesPart", "(LSecretVaultModel;IIIZ)V"⟩
def dkwX3_writesPart_9 : List UInt8 := [167, 0, 9, 42, 21, 5, 182, 0, 189, 177]
abbrev dktX3_writesPart_9 : List UInt8 := dkwX3_writesPart_9 ++ []
def dkwX3_writesPart_8 : List UInt8 := [162, 0, 8, 16, 44, 167, 0, 5, 16, 41, 182, 0, 189, 21, 7, 4, 96, 54, 6, 167, 255, 200]
abbrev dktX3_writesPart_8 : List UInt8 := dkwX3_writesPart_8 ++ dktX3_writesPart_9
def dkwX3_writesPart_7 : List UInt8 := [16, 44, 182, 0, 130, 54, 7, 42, 27, 21, 6, 21, 7, 184, 0, 242, 42, 21, 7, 29, 4, 100]
abbrev dktX3_writesPart_7 : List UInt8 := dkwX3_writesPart_7 ++ dktX3_writesPart_8
def dkwX3_writesPart_6 : List UInt8 := [182, 0, 189, 28, 7, 96, 54, 6, 21, 6, 29, 4, 100, 162, 0, 54, 42, 27, 21, 6, 29, 4, 100]
abbrev dktX3_writesPart_6 : List UInt8 := dkwX3_writesPart_6 ++ dktX3_writesPart_7
def dkwX3_writesPart_5 : List UInt8 := [153, 0, 94, 42, 21, 5, 182, 0, 189, 42, 16, 111, 182, 0, 189, 42, 16, 102, 182, 0, 189, 42, 16, 40]
abbrev dktX3_writesPart_5 : List UInt8 := dkwX3_writesPart_5 ++ dktX3_writesPart_6
def dkwX3_writesPart_4 : List UInt8 := [153, 0, 14, 21, 4, 153, 0, 9, 42, 16, 41, 182, 0, 189, 167, 0, 110, 42, 27, 28, 29, 182, 0, 137]
abbrev dktX3_writesPart_4 : List UInt8 := dkwX3_writesPart_4 ++ dktX3_writesPart_5
def dkwX3_writesPart_3 : List UInt8 := [29, 4, 100, 184, 0, 242, 167, 0, 16, 42, 27, 28, 4, 96, 29, 4, 100, 21, 4, 184, 0, 246, 21, 6]
abbrev dktX3_writesPart_3 : List UInt8 := dkwX3_writesPart_3 ++ dktX3_writesPart_4
def dkwX3_writesPart_2 : List UInt8 := [153, 0, 14, 21, 4, 153, 0, 9, 42, 16, 40, 182, 0, 189, 21, 6, 153, 0, 17, 42, 27, 28, 4, 96]
abbrev dktX3_writesPart_2 : List UInt8 := dkwX3_writesPart_2 ++ dktX3_writesPart_3
def dkwX3_writesPart_1 : List UInt8 := [4, 100, 16, 124, 182, 0, 130, 29, 4, 100, 162, 0, 7, 4, 167, 0, 4, 3, 54, 6, 21, 6]
abbrev dktX3_writesPart_1 : List UInt8 := dkwX3_writesPart_1 ++ dktX3_writesPart_2
def dkwX3_writesPart_0 : List UInt8 := [42, 27, 16, 12, 28, 96, 182, 0, 49, 54, 5, 21, 5, 16, 40, 160, 0, 96, 42, 27, 28, 4, 96, 29]
abbrev dktX3_writesPart_0 : List UInt8 := dkwX3_writesPart_0 ++ dktX3_writesPart_1
theorem dksX3_writesPart_0 : cX3_writesPart.data.toList.drop 0 = dktX3_writesPart_0 := by decide +kernel
theorem dksX3_writesPart_1 : cX3_writesPart.data.toList.drop 24 = dktX3_writesPart_1 := dk_seg dksX3_writesPart_0 24 rfl rfl
theorem dksX3_writesPart_2 : cX3_writesPart.data.toList.drop 46 = dktX3_writesPart_2 := dk_seg dksX3_writesPart_1 22 rfl rfl
theorem dksX3_writesPart_3 : cX3_writesPart.data.toList.drop 70 = dktX3_writesPart_3 := dk_seg dksX3_writesPart_2 24 rfl rfl
theorem dksX3_writesPart_4 : cX3_writesPart.data.toList.drop 94 = dktX3_writesPart_4 := dk_seg dksX3_writesPart_3 24 rfl rfl
theorem dksX3_writesPart_5 : cX3_writesPart.data.toList.drop 118 = dktX3_writesPart_5 := dk_seg dksX3_writesPart_4 24 rfl rfl
theorem dksX3_writesPart_6 : cX3_writesPart.data.toList.drop 142 = dktX3_writesPart_6 := dk_seg dksX3_writesPart_5 24 rfl rfl
theorem dksX3_writesPart_7 : cX3_writesPart.data.toList.drop 165 = dktX3_writesPart_7 := dk_seg dksX3_writesPart_6 23 rfl rfl
theorem dksX3_writesPart_8 : cX3_writesPart.data.toList.drop 187 = dktX3_writesPart_8 := dk_seg dksX3_writesPart_7 22 rfl rfl
theorem dksX3_writesPart_9 : cX3_writesPart.data.toList.drop 209 = dktX3_writesPart_9 := dk_seg dksX3_writesPart_8 22 rfl rfl
theorem dX3_writesPart_0 : decode cX3_writesPart 0 = .ok (.aload_n 0, 1) := dk_42 (dk_at dksX3_writesPart_0 0 rfl rfl)
theorem dX3_writesPart_1 : decode cX3_writesPart 1 = .ok (.iload_n 1, 1) := dk_27 (dk_at dksX3_writesPart_0 1 rfl rfl)
theorem dX3_writesPart_2 : decode cX3_writesPart 2 = .ok (.bipush 12, 2) := dk_16 12 (dk_at dksX3_writesPart_0 2 rfl rfl)
theorem dX3_writesPart_4 : decode cX3_writesPart 4 = .ok (.iload_n 2, 1) := dk_28 (dk_at dksX3_writesPart_0 4 rfl rfl)
theorem dX3_writesPart_5 : decode cX3_writesPart 5 = .ok (.iadd, 1) := dk_96 (dk_at dksX3_writesPart_0 5 rfl rfl)
theorem dX3_writesPart_6 : decode cX3_writesPart 6 = .ok (.invokevirtual 49, 3) := dk_182 0 49 (dk_at dksX3_writesPart_0 6 rfl rfl)
theorem dX3_writesPart_9 : decode cX3_writesPart 9 = .ok (.istore 5, 2) := dk_54 5 (dk_at dksX3_writesPart_0 9 rfl rfl)
theorem dX3_writesPart_11 : decode cX3_writesPart 11 = .ok (.iload 5, 2) := dk_21 5 (dk_at dksX3_writesPart_0 11 rfl rfl)
theorem dX3_writesPart_13 : decode cX3_writesPart 13 = .ok (.bipush 40, 2) := dk_16 40 (dk_at dksX3_writesPart_0 13 rfl rfl)
theorem dX3_writesPart_15 : decode cX3_writesPart 15 = .ok (.if_icmp .ne 96, 3) := dk_160 0 96 (dk_at dksX3_writesPart_0 15 rfl rfl)
theorem dX3_writesPart_18 : decode cX3_writesPart 18 = .ok (.aload_n 0, 1) := dk_42 (dk_at dksX3_writesPart_0 18 rfl rfl)
theorem dX3_writesPart_19 : decode cX3_writesPart 19 = .ok (.iload_n 1, 1) := dk_27 (dk_at dksX3_writesPart_0 19 rfl rfl)
theorem dX3_writesPart_20 : decode cX3_writesPart 20 = .ok (.iload_n 2, 1) := dk_28 (dk_at dksX3_writesPart_0 20 rfl rfl)
theorem dX3_writesPart_21 : decode cX3_writesPart 21 = .ok (.iconst 1, 1) := dk_4 (dk_at dksX3_writesPart_0 21 rfl rfl)
theorem dX3_writesPart_22 : decode cX3_writesPart 22 = .ok (.iadd, 1) := dk_96 (dk_at dksX3_writesPart_0 22 rfl rfl)
theorem dX3_writesPart_23 : decode cX3_writesPart 23 = .ok (.iload_n 3, 1) := dk_29 (dk_at dksX3_writesPart_0 23 rfl rfl)
theorem dX3_writesPart_24 : decode cX3_writesPart 24 = .ok (.iconst 1, 1) := dk_4 (dk_at dksX3_writesPart_1 0 rfl rfl)
theorem dX3_writesPart_25 : decode cX3_writesPart 25 = .ok (.isub, 1) := dk_100 (dk_at dksX3_writesPart_1 1 rfl rfl)
theorem dX3_writesPart_26 : decode cX3_writesPart 26 = .ok (.bipush 124, 2) := dk_16 124 (dk_at dksX3_writesPart_1 2 rfl rfl)
theorem dX3_writesPart_28 : decode cX3_writesPart 28 = .ok (.invokevirtual 130, 3) := dk_182 0 130 (dk_at dksX3_writesPart_1 4 rfl rfl)
theorem dX3_writesPart_31 : decode cX3_writesPart 31 = .ok (.iload_n 3, 1) := dk_29 (dk_at dksX3_writesPart_1 7 rfl rfl)
theorem dX3_writesPart_32 : decode cX3_writesPart 32 = .ok (.iconst 1, 1) := dk_4 (dk_at dksX3_writesPart_1 8 rfl rfl)
theorem dX3_writesPart_33 : decode cX3_writesPart 33 = .ok (.isub, 1) := dk_100 (dk_at dksX3_writesPart_1 9 rfl rfl)
theorem dX3_writesPart_34 : decode cX3_writesPart 34 = .ok (.if_icmp .ge 7, 3) := dk_162 0 7 (dk_at dksX3_writesPart_1 10 rfl rfl)
theorem dX3_writesPart_37 : decode cX3_writesPart 37 = .ok (.iconst 1, 1) := dk_4 (dk_at dksX3_writesPart_1 13 rfl rfl)
theorem dX3_writesPart_38 : decode cX3_writesPart 38 = .ok (.goto 4, 3) := dk_167 0 4 (dk_at dksX3_writesPart_1 14 rfl rfl)
theorem dX3_writesPart_41 : decode cX3_writesPart 41 = .ok (.iconst 0, 1) := dk_3 (dk_at dksX3_writesPart_1 17 rfl rfl)
theorem dX3_writesPart_42 : decode cX3_writesPart 42 = .ok (.istore 6, 2) := dk_54 6 (dk_at dksX3_writesPart_1 18 rfl rfl)
theorem dX3_writesPart_44 : decode cX3_writesPart 44 = .ok (.iload 6, 2) := dk_21 6 (dk_at dksX3_writesPart_1 20 rfl rfl)
theorem dX3_writesPart_46 : decode cX3_writesPart 46 = .ok (.ifCond .eq 14, 3) := dk_153 0 14 (dk_at dksX3_writesPart_2 0 rfl rfl)
theorem dX3_writesPart_49 : decode cX3_writesPart 49 = .ok (.iload 4, 2) := dk_21 4 (dk_at dksX3_writesPart_2 3 rfl rfl)
theorem dX3_writesPart_51 : decode cX3_writesPart 51 = .ok (.ifCond .eq 9, 3) := dk_153 0 9 (dk_at dksX3_writesPart_2 5 rfl rfl)
theorem dX3_writesPart_54 : decode cX3_writesPart 54 = .ok (.aload_n 0, 1) := dk_42 (dk_at dksX3_writesPart_2 8 rfl rfl)
theorem dX3_writesPart_55 : decode cX3_writesPart 55 = .ok (.bipush 40, 2) := dk_16 40 (dk_at dksX3_writesPart_2 9 rfl rfl)
theorem dX3_writesPart_57 : decode cX3_writesPart 57 = .ok (.invokevirtual 189, 3) := dk_182 0 189 (dk_at dksX3_writesPart_2 11 rfl rfl)
theorem dX3_writesPart_60 : decode cX3_writesPart 60 = .ok (.iload 6, 2) := dk_21 6 (dk_at dksX3_writesPart_2 14 rfl rfl)
theorem dX3_writesPart_62 : decode cX3_writesPart 62 = .ok (.ifCond .eq 17, 3) := dk_153 0 17 (dk_at dksX3_writesPart_2 16 rfl rfl)
theorem dX3_writesPart_65 : decode cX3_writesPart 65 = .ok (.aload_n 0, 1) := dk_42 (dk_at dksX3_writesPart_2 19 rfl rfl)
theorem dX3_writesPart_66 : decode cX3_writesPart 66 = .ok (.iload_n 1, 1) := dk_27 (dk_at dksX3_writesPart_2 20 rfl rfl)
theorem dX3_writesPart_67 : decode cX3_writesPart 67 = .ok (.iload_n 2, 1) := dk_28 (dk_at dksX3_writesPart_2 21 rfl rfl)
theorem dX3_writesPart_68 : decode cX3_writesPart 68 = .ok (.iconst 1, 1) := dk_4 (dk_at dksX3_writesPart_2 22 rfl rfl)
theorem dX3_writesPart_69 : decode cX3_writesPart 69 = .ok (.iadd, 1) := dk_96 (dk_at dksX3_writesPart_2 23 rfl rfl)
theorem dX3_writesPart_70 : decode cX3_writesPart 70 = .ok (.iload_n 3, 1) := dk_29 (dk_at dksX3_writesPart_3 0 rfl rfl)
theorem dX3_writesPart_71 : decode cX3_writesPart 71 = .ok (.iconst 1, 1) := dk_4 (dk_at dksX3_writesPart_3 1 rfl rfl)
theorem dX3_writesPart_72 : decode cX3_writesPart 72 = .ok (.isub, 1) := dk_100 (dk_at dksX3_writesPart_3 2 rfl rfl)
theorem dX3_writesPart_73 : decode cX3_writesPart 73 = .ok (.invokestatic 242, 3) := dk_184 0 242 (dk_at dksX3_writesPart_3 3 rfl rfl)
theorem dX3_writesPart_76 : decode cX3_writesPart 76 = .ok (.goto 16, 3) := dk_167 0 16 (dk_at dksX3_writesPart_3 6 rfl rfl)
theorem dX3_writesPart_79 : decode cX3_writesPart 79 = .ok (.aload_n 0, 1) := dk_42 (dk_at dksX3_writesPart_3 9 rfl rfl)
theorem dX3_writesPart_80 : decode cX3_writesPart 80 = .ok (.iload_n 1, 1) := dk_27 (dk_at dksX3_writesPart_3 10 rfl rfl)
theorem dX3_writesPart_81 : decode cX3_writesPart 81 = .ok (.iload_n 2, 1) := dk_28 (dk_at dksX3_writesPart_3 11 rfl rfl)
theorem dX3_writesPart_82 : decode cX3_writesPart 82 = .ok (.iconst 1, 1) := dk_4 (dk_at dksX3_writesPart_3 12 rfl rfl)
theorem dX3_writesPart_83 : decode cX3_writesPart 83 = .ok (.iadd, 1) := dk_96 (dk_at dksX3_writesPart_3 13 rfl rfl)
theorem dX3_writesPart_84 : decode cX3_writesPart 84 = .ok (.iload_n 3, 1) := dk_29 (dk_at dksX3_writesPart_3 14 rfl rfl)
theorem dX3_writesPart_85 : decode cX3_writesPart 85 = .ok (.iconst 1, 1) := dk_4 (dk_at dksX3_writesPart_3 15 rfl rfl)
theorem dX3_writesPart_86 : decode cX3_writesPart 86 = .ok (.isub, 1) := dk_100 (dk_at dksX3_writesPart_3 16 rfl rfl)
theorem dX3_writesPart_87 : decode cX3_writesPart 87 = .ok (.iload 4, 2) := dk_21 4 (dk_at dksX3_writesPart_3 17 rfl rfl)
theorem dX3_writesPart_89 : decode cX3_writesPart 89 = .ok (.invokestatic 246, 3) := dk_184 0 246 (dk_at dksX3_writesPart_3 19 rfl rfl)
theorem dX3_writesPart_92 : decode cX3_writesPart 92 = .ok (.iload 6, 2) := dk_21 6 (dk_at dksX3_writesPart_3 22 rfl rfl)
theorem dX3_writesPart_94 : decode cX3_writesPart 94 = .ok (.ifCond .eq 14, 3) := dk_153 0 14 (dk_at dksX3_writesPart_4 0 rfl rfl)
theorem dX3_writesPart_97 : decode cX3_writesPart 97 = .ok (.iload 4, 2) := dk_21 4 (dk_at dksX3_writesPart_4 3 rfl rfl)
theorem dX3_writesPart_99 : decode cX3_writesPart 99 = .ok (.ifCond .eq 9, 3) := dk_153 0 9 (dk_at dksX3_writesPart_4 5 rfl rfl)
theorem dX3_writesPart_102 : decode cX3_writesPart 102 = .ok (.aload_n 0, 1) := dk_42 (dk_at dksX3_writesPart_4 8 rfl rfl)
theorem dX3_writesPart_103 : decode cX3_writesPart 103 = .ok (.bipush 41, 2) := dk_16 41 (dk_at dksX3_writesPart_4 9 rfl rfl)
theorem dX3_writesPart_105 : decode cX3_writesPart 105 = .ok (.invokevirtual 189, 3) := dk_182 0 189 (dk_at dksX3_writesPart_4 11 rfl rfl)
theorem dX3_writesPart_108 : decode cX3_writesPart 108 = .ok (.goto 110, 3) := dk_167 0 110 (dk_at dksX3_writesPart_4 14 rfl rfl)
theorem dX3_writesPart_111 : decode cX3_writesPart 111 = .ok (.aload_n 0, 1) := dk_42 (dk_at dksX3_writesPart_4 17 rfl rfl)
theorem dX3_writesPart_112 : decode cX3_writesPart 112 = .ok (.iload_n 1, 1) := dk_27 (dk_at dksX3_writesPart_4 18 rfl rfl)
theorem dX3_writesPart_113 : decode cX3_writesPart 113 = .ok (.iload_n 2, 1) := dk_28 (dk_at dksX3_writesPart_4 19 rfl rfl)
theorem dX3_writesPart_114 : decode cX3_writesPart 114 = .ok (.iload_n 3, 1) := dk_29 (dk_at dksX3_writesPart_4 20 rfl rfl)
theorem dX3_writesPart_115 : decode cX3_writesPart 115 = .ok (.invokevirtual 137, 3) := dk_182 0 137 (dk_at dksX3_writesPart_4 21 rfl rfl)
theorem dX3_writesPart_118 : decode cX3_writesPart 118 = .ok (.ifCond .eq 94, 3) := dk_153 0 94 (dk_at dksX3_writesPart_5 0 rfl rfl)
theorem dX3_writesPart_121 : decode cX3_writesPart 121 = .ok (.aload_n 0, 1) := dk_42 (dk_at dksX3_writesPart_5 3 rfl rfl)
theorem dX3_writesPart_122 : decode cX3_writesPart 122 = .ok (.iload 5, 2) := dk_21 5 (dk_at dksX3_writesPart_5 4 rfl rfl)
theorem dX3_writesPart_124 : decode cX3_writesPart 124 = .ok (.invokevirtual 189, 3) := dk_182 0 189 (dk_at dksX3_writesPart_5 6 rfl rfl)
theorem dX3_writesPart_127 : decode cX3_writesPart 127 = .ok (.aload_n 0, 1) := dk_42 (dk_at dksX3_writesPart_5 9 rfl rfl)
theorem dX3_writesPart_128 : decode cX3_writesPart 128 = .ok (.bipush 111, 2) := dk_16 111 (dk_at dksX3_writesPart_5 10 rfl rfl)
theorem dX3_writesPart_130 : decode cX3_writesPart 130 = .ok (.invokevirtual 189, 3) := dk_182 0 189 (dk_at dksX3_writesPart_5 12 rfl rfl)
theorem dX3_writesPart_133 : decode cX3_writesPart 133 = .ok (.aload_n 0, 1) := dk_42 (dk_at dksX3_writesPart_5 15 rfl rfl)
theorem dX3_writesPart_134 : decode cX3_writesPart 134 = .ok (.bipush 102, 2) := dk_16 102 (dk_at dksX3_writesPart_5 16 rfl rfl)
theorem dX3_writesPart_136 : decode cX3_writesPart 136 = .ok (.invokevirtual 189, 3) := dk_182 0 189 (dk_at dksX3_writesPart_5 18 rfl rfl)
theorem dX3_writesPart_139 : decode cX3_writesPart 139 = .ok (.aload_n 0, 1) := dk_42 (dk_at dksX3_writesPart_5 21 rfl rfl)
theorem dX3_writesPart_140 : decode cX3_writesPart 140 = .ok (.bipush 40, 2) := dk_16 40 (dk_at dksX3_writesPart_5 22 rfl rfl)
theorem dX3_writesPart_142 : decode cX3_writesPart 142 = .ok (.invokevirtual 189, 3) := dk_182 0 189 (dk_at dksX3_writesPart_6 0 rfl rfl)
theorem dX3_writesPart_145 : decode cX3_writesPart 145 = .ok (.iload_n 2, 1) := dk_28 (dk_at dksX3_writesPart_6 3 rfl rfl)
theorem dX3_writesPart_146 : decode cX3_writesPart 146 = .ok (.iconst 4, 1) := dk_7 (dk_at dksX3_writesPart_6 4 rfl rfl)
theorem dX3_writesPart_147 : decode cX3_writesPart 147 = .ok (.iadd, 1) := dk_96 (dk_at dksX3_writesPart_6 5 rfl rfl)
theorem dX3_writesPart_148 : decode cX3_writesPart 148 = .ok (.istore 6, 2) := dk_54 6 (dk_at dksX3_writesPart_6 6 rfl rfl)
theorem dX3_writesPart_150 : decode cX3_writesPart 150 = .ok (.iload 6, 2) := dk_21 6 (dk_at dksX3_writesPart_6 8 rfl rfl)
theorem dX3_writesPart_152 : decode cX3_writesPart 152 = .ok (.iload_n 3, 1) := dk_29 (dk_at dksX3_writesPart_6 10 rfl rfl)
theorem dX3_writesPart_153 : decode cX3_writesPart 153 = .ok (.iconst 1, 1) := dk_4 (dk_at dksX3_writesPart_6 11 rfl rfl)
theorem dX3_writesPart_154 : decode cX3_writesPart 154 = .ok (.isub, 1) := dk_100 (dk_at dksX3_writesPart_6 12 rfl rfl)
theorem dX3_writesPart_155 : decode cX3_writesPart 155 = .ok (.if_icmp .ge 54, 3) := dk_162 0 54 (dk_at dksX3_writesPart_6 13 rfl rfl)
theorem dX3_writesPart_158 : decode cX3_writesPart 158 = .ok (.aload_n 0, 1) := dk_42 (dk_at dksX3_writesPart_6 16 rfl rfl)
theorem dX3_writesPart_159 : decode cX3_writesPart 159 = .ok (.iload_n 1, 1) := dk_27 (dk_at dksX3_writesPart_6 17 rfl rfl)
theorem dX3_writesPart_160 : decode cX3_writesPart 160 = .ok (.iload 6, 2) := dk_21 6 (dk_at dksX3_writesPart_6 18 rfl rfl)
theorem dX3_writesPart_162 : decode cX3_writesPart 162 = .ok (.iload_n 3, 1) := dk_29 (dk_at dksX3_writesPart_6 20 rfl rfl)
theorem dX3_writesPart_163 : decode cX3_writesPart 163 = .ok (.iconst 1, 1) := dk_4 (dk_at dksX3_writesPart_6 21 rfl rfl)
theorem dX3_writesPart_164 : decode cX3_writesPart 164 = .ok (.isub, 1) := dk_100 (dk_at dksX3_writesPart_6 22 rfl rfl)
theorem dX3_writesPart_165 : decode cX3_writesPart 165 = .ok (.bipush 44, 2) := dk_16 44 (dk_at dksX3_writesPart_7 0 rfl rfl)
theorem dX3_writesPart_167 : decode cX3_writesPart 167 = .ok (.invokevirtual 130, 3) := dk_182 0 130 (dk_at dksX3_writesPart_7 2 rfl rfl)
theorem dX3_writesPart_170 : decode cX3_writesPart 170 = .ok (.istore 7, 2) := dk_54 7 (dk_at dksX3_writesPart_7 5 rfl rfl)
theorem dX3_writesPart_172 : decode cX3_writesPart 172 = .ok (.aload_n 0, 1) := dk_42 (dk_at dksX3_writesPart_7 7 rfl rfl)
theorem dX3_writesPart_173 : decode cX3_writesPart 173 = .ok (.iload_n 1, 1) := dk_27 (dk_at dksX3_writesPart_7 8 rfl rfl)
theorem dX3_writesPart_174 : decode cX3_writesPart 174 = .ok (.iload 6, 2) := dk_21 6 (dk_at dksX3_writesPart_7 9 rfl rfl)
theorem dX3_writesPart_176 : decode cX3_writesPart 176 = .ok (.iload 7, 2) := dk_21 7 (dk_at dksX3_writesPart_7 11 rfl rfl)
theorem dX3_writesPart_178 : decode cX3_writesPart 178 = .ok (.invokestatic 242, 3) := dk_184 0 242 (dk_at dksX3_writesPart_7 13 rfl rfl)
theorem dX3_writesPart_181 : decode cX3_writesPart 181 = .ok (.aload_n 0, 1) := dk_42 (dk_at dksX3_writesPart_7 16 rfl rfl)
theorem dX3_writesPart_182 : decode cX3_writesPart 182 = .ok (.iload 7, 2) := dk_21 7 (dk_at dksX3_writesPart_7 17 rfl rfl)
theorem dX3_writesPart_184 : decode cX3_writesPart 184 = .ok (.iload_n 3, 1) := dk_29 (dk_at dksX3_writesPart_7 19 rfl rfl)
theorem dX3_writesPart_185 : decode cX3_writesPart 185 = .ok (.iconst 1, 1) := dk_4 (dk_at dksX3_writesPart_7 20 rfl rfl)
theorem dX3_writesPart_186 : decode cX3_writesPart 186 = .ok (.isub, 1) := dk_100 (dk_at dksX3_writesPart_7 21 rfl rfl)
theorem dX3_writesPart_187 : decode cX3_writesPart 187 = .ok (.if_icmp .ge 8, 3) := dk_162 0 8 (dk_at dksX3_writesPart_8 0 rfl rfl)
theorem dX3_writesPart_190 : decode cX3_writesPart 190 = .ok (.bipush 44, 2) := dk_16 44 (dk_at dksX3_writesPart_8 3 rfl rfl)
theorem dX3_writesPart_192 : decode cX3_writesPart 192 = .ok (.goto 5, 3) := dk_167 0 5 (dk_at dksX3_writesPart_8 5 rfl rfl)
theorem dX3_writesPart_195 : decode cX3_writesPart 195 = .ok (.bipush 41, 2) := dk_16 41 (dk_at dksX3_writesPart_8 8 rfl rfl)
theorem dX3_writesPart_197 : decode cX3_writesPart 197 = .ok (.invokevirtual 189, 3) := dk_182 0 189 (dk_at dksX3_writesPart_8 10 rfl rfl)
theorem dX3_writesPart_200 : decode cX3_writesPart 200 = .ok (.iload 7, 2) := dk_21 7 (dk_at dksX3_writesPart_8 13 rfl rfl)
theorem dX3_writesPart_202 : decode cX3_writesPart 202 = .ok (.iconst 1, 1) := dk_4 (dk_at dksX3_writesPart_8 15 rfl rfl)
theorem dX3_writesPart_203 : decode cX3_writesPart 203 = .ok (.iadd, 1) := dk_96 (dk_at dksX3_writesPart_8 16 rfl rfl)
theorem dX3_writesPart_204 : decode cX3_writesPart 204 = .ok (.istore 6, 2) := dk_54 6 (dk_at dksX3_writesPart_8 17 rfl rfl)
theorem dX3_writesPart_206 : decode cX3_writesPart 206 = .ok (.goto (-56), 3) := dk_167 255 200 (dk_at dksX3_writesPart_8 19 rfl rfl)
theorem dX3_writesPart_209 : decode cX3_writesPart 209 = .ok (.goto 9, 3) := dk_167 0 9 (dk_at dksX3_writesPart_9 0 rfl rfl)
theorem dX3_writesPart_212 : decode cX3_writesPart 212 = .ok (.aload_n 0, 1) := dk_42 (dk_at dksX3_writesPart_9 3 rfl rfl)
theorem dX3_writesPart_213 : decode cX3_writesPart 213 = .ok (.iload 5, 2) := dk_21 5 (dk_at dksX3_writesPart_9 4 rfl rfl)
theorem dX3_writesPart_215 : decode cX3_writesPart 215 = .ok (.invokevirtual 189, 3) := dk_182 0 189 (dk_at dksX3_writesPart_9 6 rfl rfl)
theorem dX3_writesPart_218 : decode cX3_writesPart 218 = .ok (.return_, 1) := dk_177 (dk_at dksX3_writesPart_9 9 rfl rfl)
abbrev cX3_policy : ByteArray := prog_27_method_85_code
def yX3_policy : MethodName := ⟨RX3, "policy", "(II)I"⟩
def dkwX3_policy_8 : List UInt8 := [21, 4, 167, 0, 5, 21, 5, 182, 0, 69, 172]
abbrev dktX3_policy_8 : List UInt8 := dkwX3_policy_8 ++ []
def dkwX3_policy_7 : List UInt8 := [128, 54, 5, 132, 6, 1, 167, 255, 147, 42, 28, 154, 0, 7, 29, 167, 0, 15, 28, 4, 160, 0, 8]
abbrev dktX3_policy_7 : List UInt8 := dkwX3_policy_7 ++ dktX3_policy_8
def dkwX3_policy_6 : List UInt8 := [21, 7, 153, 0, 7, 3, 167, 0, 18, 4, 42, 27, 16, 12, 21, 6, 96, 182, 0, 49, 16, 48, 100, 120]
abbrev dktX3_policy_6 : List UInt8 := dkwX3_policy_6 ++ dktX3_policy_7
def dkwX3_policy_5 : List UInt8 := [54, 8, 132, 3, 1, 21, 8, 21, 4, 164, 0, 8, 21, 8, 167, 0, 5, 21, 4, 54, 4, 21, 5]
abbrev dktX3_policy_5 : List UInt8 := dkwX3_policy_5 ++ dktX3_policy_6
def dkwX3_policy_4 : List UInt8 := [182, 0, 137, 54, 7, 42, 27, 21, 6, 182, 1, 0, 21, 7, 153, 0, 7, 4, 167, 0, 4, 3, 96]
abbrev dktX3_policy_4 : List UInt8 := dkwX3_policy_4 ++ dktX3_policy_5
def dkwX3_policy_3 : List UInt8 := [162, 0, 103, 42, 27, 21, 6, 182, 0, 253, 153, 0, 87, 42, 27, 21, 6, 42, 27, 16, 11, 182, 0, 49]
abbrev dktX3_policy_3 : List UInt8 := dkwX3_policy_3 ++ dktX3_policy_4
def dkwX3_policy_2 : List UInt8 := [182, 0, 80, 172, 3, 62, 3, 54, 4, 3, 54, 5, 3, 54, 6, 21, 6, 42, 27, 16, 11, 182, 0, 49]
abbrev dktX3_policy_2 : List UInt8 := dkwX3_policy_2 ++ dktX3_policy_3
def dkwX3_policy_1 : List UInt8 := [182, 0, 80, 172, 42, 27, 3, 182, 0, 49, 153, 0, 11, 42, 27, 182, 0, 140, 154, 0, 9, 42, 6]
abbrev dktX3_policy_1 : List UInt8 := dkwX3_policy_1 ++ dktX3_policy_2
def dkwX3_policy_0 : List UInt8 := [27, 184, 0, 107, 154, 0, 9, 42, 4, 182, 0, 80, 172, 28, 3, 5, 184, 0, 45, 154, 0, 9, 42, 5]
abbrev dktX3_policy_0 : List UInt8 := dkwX3_policy_0 ++ dktX3_policy_1
theorem dksX3_policy_0 : cX3_policy.data.toList.drop 0 = dktX3_policy_0 := by decide +kernel
theorem dksX3_policy_1 : cX3_policy.data.toList.drop 24 = dktX3_policy_1 := dk_seg dksX3_policy_0 24 rfl rfl
theorem dksX3_policy_2 : cX3_policy.data.toList.drop 47 = dktX3_policy_2 := dk_seg dksX3_policy_1 23 rfl rfl
theorem dksX3_policy_3 : cX3_policy.data.toList.drop 71 = dktX3_policy_3 := dk_seg dksX3_policy_2 24 rfl rfl
theorem dksX3_policy_4 : cX3_policy.data.toList.drop 95 = dktX3_policy_4 := dk_seg dksX3_policy_3 24 rfl rfl
theorem dksX3_policy_5 : cX3_policy.data.toList.drop 118 = dktX3_policy_5 := dk_seg dksX3_policy_4 23 rfl rfl
theorem dksX3_policy_6 : cX3_policy.data.toList.drop 141 = dktX3_policy_6 := dk_seg dksX3_policy_5 23 rfl rfl
theorem dksX3_policy_7 : cX3_policy.data.toList.drop 165 = dktX3_policy_7 := dk_seg dksX3_policy_6 24 rfl rfl
theorem dksX3_policy_8 : cX3_policy.data.toList.drop 188 = dktX3_policy_8 := dk_seg dksX3_policy_7 23 rfl rfl
theorem dX3_policy_0 : decode cX3_policy 0 = .ok (.iload_n 1, 1) := dk_27 (dk_at dksX3_policy_0 0 rfl rfl)
theorem dX3_policy_1 : decode cX3_policy 1 = .ok (.invokestatic 107, 3) := dk_184 0 107 (dk_at dksX3_policy_0 1 rfl rfl)
theorem dX3_policy_4 : decode cX3_policy 4 = .ok (.ifCond .ne 9, 3) := dk_154 0 9 (dk_at dksX3_policy_0 4 rfl rfl)
theorem dX3_policy_7 : decode cX3_policy 7 = .ok (.aload_n 0, 1) := dk_42 (dk_at dksX3_policy_0 7 rfl rfl)
theorem dX3_policy_8 : decode cX3_policy 8 = .ok (.iconst 1, 1) := dk_4 (dk_at dksX3_policy_0 8 rfl rfl)
theorem dX3_policy_9 : decode cX3_policy 9 = .ok (.invokevirtual 80, 3) := dk_182 0 80 (dk_at dksX3_policy_0 9 rfl rfl)
theorem dX3_policy_12 : decode cX3_policy 12 = .ok (.ireturn, 1) := dk_172 (dk_at dksX3_policy_0 12 rfl rfl)
theorem dX3_policy_13 : decode cX3_policy 13 = .ok (.iload_n 2, 1) := dk_28 (dk_at dksX3_policy_0 13 rfl rfl)
theorem dX3_policy_14 : decode cX3_policy 14 = .ok (.iconst 0, 1) := dk_3 (dk_at dksX3_policy_0 14 rfl rfl)
theorem dX3_policy_15 : decode cX3_policy 15 = .ok (.iconst 2, 1) := dk_5 (dk_at dksX3_policy_0 15 rfl rfl)
theorem dX3_policy_16 : decode cX3_policy 16 = .ok (.invokestatic 45, 3) := dk_184 0 45 (dk_at dksX3_policy_0 16 rfl rfl)
theorem dX3_policy_19 : decode cX3_policy 19 = .ok (.ifCond .ne 9, 3) := dk_154 0 9 (dk_at dksX3_policy_0 19 rfl rfl)
theorem dX3_policy_22 : decode cX3_policy 22 = .ok (.aload_n 0, 1) := dk_42 (dk_at dksX3_policy_0 22 rfl rfl)
theorem dX3_policy_23 : decode cX3_policy 23 = .ok (.iconst 2, 1) := dk_5 (dk_at dksX3_policy_0 23 rfl rfl)
theorem dX3_policy_24 : decode cX3_policy 24 = .ok (.invokevirtual 80, 3) := dk_182 0 80 (dk_at dksX3_policy_1 0 rfl rfl)
theorem dX3_policy_27 : decode cX3_policy 27 = .ok (.ireturn, 1) := dk_172 (dk_at dksX3_policy_1 3 rfl rfl)
theorem dX3_policy_28 : decode cX3_policy 28 = .ok (.aload_n 0, 1) := dk_42 (dk_at dksX3_policy_1 4 rfl rfl)
theorem dX3_policy_29 : decode cX3_policy 29 = .ok (.iload_n 1, 1) := dk_27 (dk_at dksX3_policy_1 5 rfl rfl)
theorem dX3_policy_30 : decode cX3_policy 30 = .ok (.iconst 0, 1) := dk_3 (dk_at dksX3_policy_1 6 rfl rfl)
theorem dX3_policy_31 : decode cX3_policy 31 = .ok (.invokevirtual 49, 3) := dk_182 0 49 (dk_at dksX3_policy_1 7 rfl rfl)
theorem dX3_policy_34 : decode cX3_policy 34 = .ok (.ifCond .eq 11, 3) := dk_153 0 11 (dk_at dksX3_policy_1 10 rfl rfl)
theorem dX3_policy_37 : decode cX3_policy 37 = .ok (.aload_n 0, 1) := dk_42 (dk_at dksX3_policy_1 13 rfl rfl)
theorem dX3_policy_38 : decode cX3_policy 38 = .ok (.iload_n 1, 1) := dk_27 (dk_at dksX3_policy_1 14 rfl rfl)
theorem dX3_policy_39 : decode cX3_policy 39 = .ok (.invokevirtual 140, 3) := dk_182 0 140 (dk_at dksX3_policy_1 15 rfl rfl)
theorem dX3_policy_42 : decode cX3_policy 42 = .ok (.ifCond .ne 9, 3) := dk_154 0 9 (dk_at dksX3_policy_1 18 rfl rfl)
theorem dX3_policy_45 : decode cX3_policy 45 = .ok (.aload_n 0, 1) := dk_42 (dk_at dksX3_policy_1 21 rfl rfl)
theorem dX3_policy_46 : decode cX3_policy 46 = .ok (.iconst 3, 1) := dk_6 (dk_at dksX3_policy_1 22 rfl rfl)
theorem dX3_policy_47 : decode cX3_policy 47 = .ok (.invokevirtual 80, 3) := dk_182 0 80 (dk_at dksX3_policy_2 0 rfl rfl)
theorem dX3_policy_50 : decode cX3_policy 50 = .ok (.ireturn, 1) := dk_172 (dk_at dksX3_policy_2 3 rfl rfl)
theorem dX3_policy_51 : decode cX3_policy 51 = .ok (.iconst 0, 1) := dk_3 (dk_at dksX3_policy_2 4 rfl rfl)
theorem dX3_policy_52 : decode cX3_policy 52 = .ok (.istore_n 3, 1) := dk_62 (dk_at dksX3_policy_2 5 rfl rfl)
theorem dX3_policy_53 : decode cX3_policy 53 = .ok (.iconst 0, 1) := dk_3 (dk_at dksX3_policy_2 6 rfl rfl)
theorem dX3_policy_54 : decode cX3_policy 54 = .ok (.istore 4, 2) := dk_54 4 (dk_at dksX3_policy_2 7 rfl rfl)
theorem dX3_policy_56 : decode cX3_policy 56 = .ok (.iconst 0, 1) := dk_3 (dk_at dksX3_policy_2 9 rfl rfl)
theorem dX3_policy_57 : decode cX3_policy 57 = .ok (.istore 5, 2) := dk_54 5 (dk_at dksX3_policy_2 10 rfl rfl)
theorem dX3_policy_59 : decode cX3_policy 59 = .ok (.iconst 0, 1) := dk_3 (dk_at dksX3_policy_2 12 rfl rfl)
theorem dX3_policy_60 : decode cX3_policy 60 = .ok (.istore 6, 2) := dk_54 6 (dk_at dksX3_policy_2 13 rfl rfl)
theorem dX3_policy_62 : decode cX3_policy 62 = .ok (.iload 6, 2) := dk_21 6 (dk_at dksX3_policy_2 15 rfl rfl)
theorem dX3_policy_64 : decode cX3_policy 64 = .ok (.aload_n 0, 1) := dk_42 (dk_at dksX3_policy_2 17 rfl rfl)
theorem dX3_policy_65 : decode cX3_policy 65 = .ok (.iload_n 1, 1) := dk_27 (dk_at dksX3_policy_2 18 rfl rfl)
theorem dX3_policy_66 : decode cX3_policy 66 = .ok (.bipush 11, 2) := dk_16 11 (dk_at dksX3_policy_2 19 rfl rfl)
theorem dX3_policy_68 : decode cX3_policy 68 = .ok (.invokevirtual 49, 3) := dk_182 0 49 (dk_at dksX3_policy_2 21 rfl rfl)
theorem dX3_policy_71 : decode cX3_policy 71 = .ok (.if_icmp .ge 103, 3) := dk_162 0 103 (dk_at dksX3_policy_3 0 rfl rfl)
theorem dX3_policy_74 : decode cX3_policy 74 = .ok (.aload_n 0, 1) := dk_42 (dk_at dksX3_policy_3 3 rfl rfl)
theorem dX3_policy_75 : decode cX3_policy 75 = .ok (.iload_n 1, 1) := dk_27 (dk_at dksX3_policy_3 4 rfl rfl)
theorem dX3_policy_76 : decode cX3_policy 76 = .ok (.iload 6, 2) := dk_21 6 (dk_at dksX3_policy_3 5 rfl rfl)
theorem dX3_policy_78 : decode cX3_policy 78 = .ok (.invokevirtual 253, 3) := dk_182 0 253 (dk_at dksX3_policy_3 7 rfl rfl)
theorem dX3_policy_81 : decode cX3_policy 81 = .ok (.ifCond .eq 87, 3) := dk_153 0 87 (dk_at dksX3_policy_3 10 rfl rfl)
theorem dX3_policy_84 : decode cX3_policy 84 = .ok (.aload_n 0, 1) := dk_42 (dk_at dksX3_policy_3 13 rfl rfl)
theorem dX3_policy_85 : decode cX3_policy 85 = .ok (.iload_n 1, 1) := dk_27 (dk_at dksX3_policy_3 14 rfl rfl)
theorem dX3_policy_86 : decode cX3_policy 86 = .ok (.iload 6, 2) := dk_21 6 (dk_at dksX3_policy_3 15 rfl rfl)
theorem dX3_policy_88 : decode cX3_policy 88 = .ok (.aload_n 0, 1) := dk_42 (dk_at dksX3_policy_3 17 rfl rfl)
theorem dX3_policy_89 : decode cX3_policy 89 = .ok (.iload_n 1, 1) := dk_27 (dk_at dksX3_policy_3 18 rfl rfl)
theorem dX3_policy_90 : decode cX3_policy 90 = .ok (.bipush 11, 2) := dk_16 11 (dk_at dksX3_policy_3 19 rfl rfl)
theorem dX3_policy_92 : decode cX3_policy 92 = .ok (.invokevirtual 49, 3) := dk_182 0 49 (dk_at dksX3_policy_3 21 rfl rfl)
theorem dX3_policy_95 : decode cX3_policy 95 = .ok (.invokevirtual 137, 3) := dk_182 0 137 (dk_at dksX3_policy_4 0 rfl rfl)
theorem dX3_policy_98 : decode cX3_policy 98 = .ok (.istore 7, 2) := dk_54 7 (dk_at dksX3_policy_4 3 rfl rfl)
theorem dX3_policy_100 : decode cX3_policy 100 = .ok (.aload_n 0, 1) := dk_42 (dk_at dksX3_policy_4 5 rfl rfl)
theorem dX3_policy_101 : decode cX3_policy 101 = .ok (.iload_n 1, 1) := dk_27 (dk_at dksX3_policy_4 6 rfl rfl)
theorem dX3_policy_102 : decode cX3_policy 102 = .ok (.iload 6, 2) := dk_21 6 (dk_at dksX3_policy_4 7 rfl rfl)
theorem dX3_policy_104 : decode cX3_policy 104 = .ok (.invokevirtual 256, 3) := dk_182 1 0 (dk_at dksX3_policy_4 9 rfl rfl)
theorem dX3_policy_107 : decode cX3_policy 107 = .ok (.iload 7, 2) := dk_21 7 (dk_at dksX3_policy_4 12 rfl rfl)
theorem dX3_policy_109 : decode cX3_policy 109 = .ok (.ifCond .eq 7, 3) := dk_153 0 7 (dk_at dksX3_policy_4 14 rfl rfl)
theorem dX3_policy_112 : decode cX3_policy 112 = .ok (.iconst 1, 1) := dk_4 (dk_at dksX3_policy_4 17 rfl rfl)
theorem dX3_policy_113 : decode cX3_policy 113 = .ok (.goto 4, 3) := dk_167 0 4 (dk_at dksX3_policy_4 18 rfl rfl)
theorem dX3_policy_116 : decode cX3_policy 116 = .ok (.iconst 0, 1) := dk_3 (dk_at dksX3_policy_4 21 rfl rfl)
theorem dX3_policy_117 : decode cX3_policy 117 = .ok (.iadd, 1) := dk_96 (dk_at dksX3_policy_4 22 rfl rfl)
theorem dX3_policy_118 : decode cX3_policy 118 = .ok (.istore 8, 2) := dk_54 8 (dk_at dksX3_policy_5 0 rfl rfl)
theorem dX3_policy_120 : decode cX3_policy 120 = .ok (.iinc 3 1, 3) := dk_132 3 1 (dk_at dksX3_policy_5 2 rfl rfl)
theorem dX3_policy_123 : decode cX3_policy 123 = .ok (.iload 8, 2) := dk_21 8 (dk_at dksX3_policy_5 5 rfl rfl)
theorem dX3_policy_125 : decode cX3_policy 125 = .ok (.iload 4, 2) := dk_21 4 (dk_at dksX3_policy_5 7 rfl rfl)
theorem dX3_policy_127 : decode cX3_policy 127 = .ok (.if_icmp .le 8, 3) := dk_164 0 8 (dk_at dksX3_policy_5 9 rfl rfl)
theorem dX3_policy_130 : decode cX3_policy 130 = .ok (.iload 8, 2) := dk_21 8 (dk_at dksX3_policy_5 12 rfl rfl)
theorem dX3_policy_132 : decode cX3_policy 132 = .ok (.goto 5, 3) := dk_167 0 5 (dk_at dksX3_policy_5 14 rfl rfl)
theorem dX3_policy_135 : decode cX3_policy 135 = .ok (.iload 4, 2) := dk_21 4 (dk_at dksX3_policy_5 17 rfl rfl)
theorem dX3_policy_137 : decode cX3_policy 137 = .ok (.istore 4, 2) := dk_54 4 (dk_at dksX3_policy_5 19 rfl rfl)
theorem dX3_policy_139 : decode cX3_policy 139 = .ok (.iload 5, 2) := dk_21 5 (dk_at dksX3_policy_5 21 rfl rfl)
theorem dX3_policy_141 : decode cX3_policy 141 = .ok (.iload 7, 2) := dk_21 7 (dk_at dksX3_policy_6 0 rfl rfl)
theorem dX3_policy_143 : decode cX3_policy 143 = .ok (.ifCond .eq 7, 3) := dk_153 0 7 (dk_at dksX3_policy_6 2 rfl rfl)
theorem dX3_policy_146 : decode cX3_policy 146 = .ok (.iconst 0, 1) := dk_3 (dk_at dksX3_policy_6 5 rfl rfl)
theorem dX3_policy_147 : decode cX3_policy 147 = .ok (.goto 18, 3) := dk_167 0 18 (dk_at dksX3_policy_6 6 rfl rfl)
theorem dX3_policy_150 : decode cX3_policy 150 = .ok (.iconst 1, 1) := dk_4 (dk_at dksX3_policy_6 9 rfl rfl)
theorem dX3_policy_151 : decode cX3_policy 151 = .ok (.aload_n 0, 1) := dk_42 (dk_at dksX3_policy_6 10 rfl rfl)
theorem dX3_policy_152 : decode cX3_policy 152 = .ok (.iload_n 1, 1) := dk_27 (dk_at dksX3_policy_6 11 rfl rfl)
theorem dX3_policy_153 : decode cX3_policy 153 = .ok (.bipush 12, 2) := dk_16 12 (dk_at dksX3_policy_6 12 rfl rfl)
theorem dX3_policy_155 : decode cX3_policy 155 = .ok (.iload 6, 2) := dk_21 6 (dk_at dksX3_policy_6 14 rfl rfl)
theorem dX3_policy_157 : decode cX3_policy 157 = .ok (.iadd, 1) := dk_96 (dk_at dksX3_policy_6 16 rfl rfl)
theorem dX3_policy_158 : decode cX3_policy 158 = .ok (.invokevirtual 49, 3) := dk_182 0 49 (dk_at dksX3_policy_6 17 rfl rfl)
theorem dX3_policy_161 : decode cX3_policy 161 = .ok (.bipush 48, 2) := dk_16 48 (dk_at dksX3_policy_6 20 rfl rfl)
theorem dX3_policy_163 : decode cX3_policy 163 = .ok (.isub, 1) := dk_100 (dk_at dksX3_policy_6 22 rfl rfl)
theorem dX3_policy_164 : decode cX3_policy 164 = .ok (.ishl, 1) := dk_120 (dk_at dksX3_policy_6 23 rfl rfl)
theorem dX3_policy_165 : decode cX3_policy 165 = .ok (.ior, 1) := dk_128 (dk_at dksX3_policy_7 0 rfl rfl)
theorem dX3_policy_166 : decode cX3_policy 166 = .ok (.istore 5, 2) := dk_54 5 (dk_at dksX3_policy_7 1 rfl rfl)
theorem dX3_policy_168 : decode cX3_policy 168 = .ok (.iinc 6 1, 3) := dk_132 6 1 (dk_at dksX3_policy_7 3 rfl rfl)
theorem dX3_policy_171 : decode cX3_policy 171 = .ok (.goto (-109), 3) := dk_167 255 147 (dk_at dksX3_policy_7 6 rfl rfl)
theorem dX3_policy_174 : decode cX3_policy 174 = .ok (.aload_n 0, 1) := dk_42 (dk_at dksX3_policy_7 9 rfl rfl)
theorem dX3_policy_175 : decode cX3_policy 175 = .ok (.iload_n 2, 1) := dk_28 (dk_at dksX3_policy_7 10 rfl rfl)
theorem dX3_policy_176 : decode cX3_policy 176 = .ok (.ifCond .ne 7, 3) := dk_154 0 7 (dk_at dksX3_policy_7 11 rfl rfl)
theorem dX3_policy_179 : decode cX3_policy 179 = .ok (.iload_n 3, 1) := dk_29 (dk_at dksX3_policy_7 14 rfl rfl)
theorem dX3_policy_180 : decode cX3_policy 180 = .ok (.goto 15, 3) := dk_167 0 15 (dk_at dksX3_policy_7 15 rfl rfl)
theorem dX3_policy_183 : decode cX3_policy 183 = .ok (.iload_n 2, 1) := dk_28 (dk_at dksX3_policy_7 18 rfl rfl)
theorem dX3_policy_184 : decode cX3_policy 184 = .ok (.iconst 1, 1) := dk_4 (dk_at dksX3_policy_7 19 rfl rfl)
theorem dX3_policy_185 : decode cX3_policy 185 = .ok (.if_icmp .ne 8, 3) := dk_160 0 8 (dk_at dksX3_policy_7 20 rfl rfl)
theorem dX3_policy_188 : decode cX3_policy 188 = .ok (.iload 4, 2) := dk_21 4 (dk_at dksX3_policy_8 0 rfl rfl)
theorem dX3_policy_190 : decode cX3_policy 190 = .ok (.goto 5, 3) := dk_167 0 5 (dk_at dksX3_policy_8 2 rfl rfl)
theorem dX3_policy_193 : decode cX3_policy 193 = .ok (.iload 5, 2) := dk_21 5 (dk_at dksX3_policy_8 5 rfl rfl)
theorem dX3_policy_195 : decode cX3_policy 195 = .ok (.invokevirtual 69, 3) := dk_182 0 69 (dk_at dksX3_policy_8 7 rfl rfl)
theorem dX3_policy_198 : decode cX3_policy 198 = .ok (.ireturn, 1) := dk_172 (dk_at dksX3_policy_8 10 rfl rfl)
abbrev cX3_isDigitAt : ByteArray := prog_27_method_83_code
def yX3_isDigitAt : MethodName := ⟨RX3, "isDigitAt", "(II)Z"⟩
def dkwX3_isDigitAt_0 : List UInt8 := [42, 27, 16, 12, 28, 96, 182, 0, 49, 16, 48, 16, 57, 184, 0, 45, 172]
abbrev dktX3_isDigitAt_0 : List UInt8 := dkwX3_isDigitAt_0 ++ []
theorem dksX3_isDigitAt_0 : cX3_isDigitAt.data.toList.drop 0 = dktX3_isDigitAt_0 := by decide +kernel
theorem dX3_isDigitAt_0 : decode cX3_isDigitAt 0 = .ok (.aload_n 0, 1) := dk_42 (dk_at dksX3_isDigitAt_0 0 rfl rfl)
theorem dX3_isDigitAt_1 : decode cX3_isDigitAt 1 = .ok (.iload_n 1, 1) := dk_27 (dk_at dksX3_isDigitAt_0 1 rfl rfl)
theorem dX3_isDigitAt_2 : decode cX3_isDigitAt 2 = .ok (.bipush 12, 2) := dk_16 12 (dk_at dksX3_isDigitAt_0 2 rfl rfl)
theorem dX3_isDigitAt_4 : decode cX3_isDigitAt 4 = .ok (.iload_n 2, 1) := dk_28 (dk_at dksX3_isDigitAt_0 4 rfl rfl)
theorem dX3_isDigitAt_5 : decode cX3_isDigitAt 5 = .ok (.iadd, 1) := dk_96 (dk_at dksX3_isDigitAt_0 5 rfl rfl)
theorem dX3_isDigitAt_6 : decode cX3_isDigitAt 6 = .ok (.invokevirtual 49, 3) := dk_182 0 49 (dk_at dksX3_isDigitAt_0 6 rfl rfl)
theorem dX3_isDigitAt_9 : decode cX3_isDigitAt 9 = .ok (.bipush 48, 2) := dk_16 48 (dk_at dksX3_isDigitAt_0 9 rfl rfl)
theorem dX3_isDigitAt_11 : decode cX3_isDigitAt 11 = .ok (.bipush 57, 2) := dk_16 57 (dk_at dksX3_isDigitAt_0 11 rfl rfl)
theorem dX3_isDigitAt_13 : decode cX3_isDigitAt 13 = .ok (.invokestatic 45, 3) := dk_184 0 45 (dk_at dksX3_isDigitAt_0 13 rfl rfl)
theorem dX3_isDigitAt_16 : decode cX3_isDigitAt 16 = .ok (.ireturn, 1) := dk_172 (dk_at dksX3_isDigitAt_0 16 rfl rfl)
abbrev cX3_countsAround : ByteArray := prog_27_method_84_code
def yX3_countsAround : MethodName := ⟨RX3, "countsAround", "(II)I"⟩
def dkwX3_countsAround_5 : List UInt8 := [167, 255, 145, 29, 172]
abbrev dktX3_countsAround_5 : List UInt8 := dkwX3_countsAround_5 ++ []
def dkwX3_countsAround_4 : List UInt8 := [21, 5, 157, 255, 207, 29, 28, 21, 6, 162, 0, 7, 4, 167, 0, 4, 3, 96, 62, 132, 4, 1]
abbrev dktX3_countsAround_4 : List UInt8 := dkwX3_countsAround_4 ++ dktX3_countsAround_5
def dkwX3_countsAround_3 : List UInt8 := [16, 12, 21, 6, 96, 182, 0, 49, 16, 41, 160, 0, 7, 2, 167, 0, 4, 3, 96, 54, 5, 132, 6, 1]
abbrev dktX3_countsAround_3 : List UInt8 := dkwX3_countsAround_3 ++ dktX3_countsAround_4
def dkwX3_countsAround_2 : List UInt8 := [21, 5, 42, 27, 16, 12, 21, 6, 96, 182, 0, 49, 16, 40, 160, 0, 7, 4, 167, 0, 23, 42, 27]
abbrev dktX3_countsAround_2 : List UInt8 := dkwX3_countsAround_2 ++ dktX3_countsAround_3
def dkwX3_countsAround_1 : List UInt8 := [21, 4, 42, 27, 16, 11, 182, 0, 49, 182, 0, 137, 153, 0, 78, 3, 54, 5, 21, 4, 6, 96, 54, 6]
abbrev dktX3_countsAround_1 : List UInt8 := dkwX3_countsAround_1 ++ dktX3_countsAround_2
def dkwX3_countsAround_0 : List UInt8 := [3, 62, 3, 54, 4, 21, 4, 28, 162, 0, 111, 42, 27, 21, 4, 182, 0, 253, 153, 0, 95, 42, 27]
abbrev dktX3_countsAround_0 : List UInt8 := dkwX3_countsAround_0 ++ dktX3_countsAround_1
theorem dksX3_countsAround_0 : cX3_countsAround.data.toList.drop 0 = dktX3_countsAround_0 := by decide +kernel
theorem dksX3_countsAround_1 : cX3_countsAround.data.toList.drop 23 = dktX3_countsAround_1 := dk_seg dksX3_countsAround_0 23 rfl rfl
theorem dksX3_countsAround_2 : cX3_countsAround.data.toList.drop 47 = dktX3_countsAround_2 := dk_seg dksX3_countsAround_1 24 rfl rfl
theorem dksX3_countsAround_3 : cX3_countsAround.data.toList.drop 70 = dktX3_countsAround_3 := dk_seg dksX3_countsAround_2 23 rfl rfl
theorem dksX3_countsAround_4 : cX3_countsAround.data.toList.drop 94 = dktX3_countsAround_4 := dk_seg dksX3_countsAround_3 24 rfl rfl
theorem dksX3_countsAround_5 : cX3_countsAround.data.toList.drop 116 = dktX3_countsAround_5 := dk_seg dksX3_countsAround_4 22 rfl rfl
theorem dX3_countsAround_0 : decode cX3_countsAround 0 = .ok (.iconst 0, 1) := dk_3 (dk_at dksX3_countsAround_0 0 rfl rfl)
theorem dX3_countsAround_1 : decode cX3_countsAround 1 = .ok (.istore_n 3, 1) := dk_62 (dk_at dksX3_countsAround_0 1 rfl rfl)
theorem dX3_countsAround_2 : decode cX3_countsAround 2 = .ok (.iconst 0, 1) := dk_3 (dk_at dksX3_countsAround_0 2 rfl rfl)
theorem dX3_countsAround_3 : decode cX3_countsAround 3 = .ok (.istore 4, 2) := dk_54 4 (dk_at dksX3_countsAround_0 3 rfl rfl)
theorem dX3_countsAround_5 : decode cX3_countsAround 5 = .ok (.iload 4, 2) := dk_21 4 (dk_at dksX3_countsAround_0 5 rfl rfl)
theorem dX3_countsAround_7 : decode cX3_countsAround 7 = .ok (.iload_n 2, 1) := dk_28 (dk_at dksX3_countsAround_0 7 rfl rfl)
theorem dX3_countsAround_8 : decode cX3_countsAround 8 = .ok (.if_icmp .ge 111, 3) := dk_162 0 111 (dk_at dksX3_countsAround_0 8 rfl rfl)
theorem dX3_countsAround_11 : decode cX3_countsAround 11 = .ok (.aload_n 0, 1) := dk_42 (dk_at dksX3_countsAround_0 11 rfl rfl)
theorem dX3_countsAround_12 : decode cX3_countsAround 12 = .ok (.iload_n 1, 1) := dk_27 (dk_at dksX3_countsAround_0 12 rfl rfl)
theorem dX3_countsAround_13 : decode cX3_countsAround 13 = .ok (.iload 4, 2) := dk_21 4 (dk_at dksX3_countsAround_0 13 rfl rfl)
theorem dX3_countsAround_15 : decode cX3_countsAround 15 = .ok (.invokevirtual 253, 3) := dk_182 0 253 (dk_at dksX3_countsAround_0 15 rfl rfl)
theorem dX3_countsAround_18 : decode cX3_countsAround 18 = .ok (.ifCond .eq 95, 3) := dk_153 0 95 (dk_at dksX3_countsAround_0 18 rfl rfl)
theorem dX3_countsAround_21 : decode cX3_countsAround 21 = .ok (.aload_n 0, 1) := dk_42 (dk_at dksX3_countsAround_0 21 rfl rfl)
theorem dX3_countsAround_22 : decode cX3_countsAround 22 = .ok (.iload_n 1, 1) := dk_27 (dk_at dksX3_countsAround_0 22 rfl rfl)
theorem dX3_countsAround_23 : decode cX3_countsAround 23 = .ok (.iload 4, 2) := dk_21 4 (dk_at dksX3_countsAround_1 0 rfl rfl)
theorem dX3_countsAround_25 : decode cX3_countsAround 25 = .ok (.aload_n 0, 1) := dk_42 (dk_at dksX3_countsAround_1 2 rfl rfl)
theorem dX3_countsAround_26 : decode cX3_countsAround 26 = .ok (.iload_n 1, 1) := dk_27 (dk_at dksX3_countsAround_1 3 rfl rfl)
theorem dX3_countsAround_27 : decode cX3_countsAround 27 = .ok (.bipush 11, 2) := dk_16 11 (dk_at dksX3_countsAround_1 4 rfl rfl)
theorem dX3_countsAround_29 : decode cX3_countsAround 29 = .ok (.invokevirtual 49, 3) := dk_182 0 49 (dk_at dksX3_countsAround_1 6 rfl rfl)
theorem dX3_countsAround_32 : decode cX3_countsAround 32 = .ok (.invokevirtual 137, 3) := dk_182 0 137 (dk_at dksX3_countsAround_1 9 rfl rfl)
theorem dX3_countsAround_35 : decode cX3_countsAround 35 = .ok (.ifCond .eq 78, 3) := dk_153 0 78 (dk_at dksX3_countsAround_1 12 rfl rfl)
theorem dX3_countsAround_38 : decode cX3_countsAround 38 = .ok (.iconst 0, 1) := dk_3 (dk_at dksX3_countsAround_1 15 rfl rfl)
theorem dX3_countsAround_39 : decode cX3_countsAround 39 = .ok (.istore 5, 2) := dk_54 5 (dk_at dksX3_countsAround_1 16 rfl rfl)
theorem dX3_countsAround_41 : decode cX3_countsAround 41 = .ok (.iload 4, 2) := dk_21 4 (dk_at dksX3_countsAround_1 18 rfl rfl)
theorem dX3_countsAround_43 : decode cX3_countsAround 43 = .ok (.iconst 3, 1) := dk_6 (dk_at dksX3_countsAround_1 20 rfl rfl)
theorem dX3_countsAround_44 : decode cX3_countsAround 44 = .ok (.iadd, 1) := dk_96 (dk_at dksX3_countsAround_1 21 rfl rfl)
theorem dX3_countsAround_45 : decode cX3_countsAround 45 = .ok (.istore 6, 2) := dk_54 6 (dk_at dksX3_countsAround_1 22 rfl rfl)
theorem dX3_countsAround_47 : decode cX3_countsAround 47 = .ok (.iload 5, 2) := dk_21 5 (dk_at dksX3_countsAround_2 0 rfl rfl)
theorem dX3_countsAround_49 : decode cX3_countsAround 49 = .ok (.aload_n 0, 1) := dk_42 (dk_at dksX3_countsAround_2 2 rfl rfl)
theorem dX3_countsAround_50 : decode cX3_countsAround 50 = .ok (.iload_n 1, 1) := dk_27 (dk_at dksX3_countsAround_2 3 rfl rfl)
theorem dX3_countsAround_51 : decode cX3_countsAround 51 = .ok (.bipush 12, 2) := dk_16 12 (dk_at dksX3_countsAround_2 4 rfl rfl)
theorem dX3_countsAround_53 : decode cX3_countsAround 53 = .ok (.iload 6, 2) := dk_21 6 (dk_at dksX3_countsAround_2 6 rfl rfl)
theorem dX3_countsAround_55 : decode cX3_countsAround 55 = .ok (.iadd, 1) := dk_96 (dk_at dksX3_countsAround_2 8 rfl rfl)
theorem dX3_countsAround_56 : decode cX3_countsAround 56 = .ok (.invokevirtual 49, 3) := dk_182 0 49 (dk_at dksX3_countsAround_2 9 rfl rfl)
theorem dX3_countsAround_59 : decode cX3_countsAround 59 = .ok (.bipush 40, 2) := dk_16 40 (dk_at dksX3_countsAround_2 12 rfl rfl)
theorem dX3_countsAround_61 : decode cX3_countsAround 61 = .ok (.if_icmp .ne 7, 3) := dk_160 0 7 (dk_at dksX3_countsAround_2 14 rfl rfl)
theorem dX3_countsAround_64 : decode cX3_countsAround 64 = .ok (.iconst 1, 1) := dk_4 (dk_at dksX3_countsAround_2 17 rfl rfl)
theorem dX3_countsAround_65 : decode cX3_countsAround 65 = .ok (.goto 23, 3) := dk_167 0 23 (dk_at dksX3_countsAround_2 18 rfl rfl)
theorem dX3_countsAround_68 : decode cX3_countsAround 68 = .ok (.aload_n 0, 1) := dk_42 (dk_at dksX3_countsAround_2 21 rfl rfl)
theorem dX3_countsAround_69 : decode cX3_countsAround 69 = .ok (.iload_n 1, 1) := dk_27 (dk_at dksX3_countsAround_2 22 rfl rfl)
theorem dX3_countsAround_70 : decode cX3_countsAround 70 = .ok (.bipush 12, 2) := dk_16 12 (dk_at dksX3_countsAround_3 0 rfl rfl)
theorem dX3_countsAround_72 : decode cX3_countsAround 72 = .ok (.iload 6, 2) := dk_21 6 (dk_at dksX3_countsAround_3 2 rfl rfl)
theorem dX3_countsAround_74 : decode cX3_countsAround 74 = .ok (.iadd, 1) := dk_96 (dk_at dksX3_countsAround_3 4 rfl rfl)
theorem dX3_countsAround_75 : decode cX3_countsAround 75 = .ok (.invokevirtual 49, 3) := dk_182 0 49 (dk_at dksX3_countsAround_3 5 rfl rfl)
theorem dX3_countsAround_78 : decode cX3_countsAround 78 = .ok (.bipush 41, 2) := dk_16 41 (dk_at dksX3_countsAround_3 8 rfl rfl)
theorem dX3_countsAround_80 : decode cX3_countsAround 80 = .ok (.if_icmp .ne 7, 3) := dk_160 0 7 (dk_at dksX3_countsAround_3 10 rfl rfl)
theorem dX3_countsAround_83 : decode cX3_countsAround 83 = .ok (.iconst (-1), 1) := dk_2 (dk_at dksX3_countsAround_3 13 rfl rfl)
theorem dX3_countsAround_84 : decode cX3_countsAround 84 = .ok (.goto 4, 3) := dk_167 0 4 (dk_at dksX3_countsAround_3 14 rfl rfl)
theorem dX3_countsAround_87 : decode cX3_countsAround 87 = .ok (.iconst 0, 1) := dk_3 (dk_at dksX3_countsAround_3 17 rfl rfl)
theorem dX3_countsAround_88 : decode cX3_countsAround 88 = .ok (.iadd, 1) := dk_96 (dk_at dksX3_countsAround_3 18 rfl rfl)
theorem dX3_countsAround_89 : decode cX3_countsAround 89 = .ok (.istore 5, 2) := dk_54 5 (dk_at dksX3_countsAround_3 19 rfl rfl)
theorem dX3_countsAround_91 : decode cX3_countsAround 91 = .ok (.iinc 6 1, 3) := dk_132 6 1 (dk_at dksX3_countsAround_3 21 rfl rfl)
theorem dX3_countsAround_94 : decode cX3_countsAround 94 = .ok (.iload 5, 2) := dk_21 5 (dk_at dksX3_countsAround_4 0 rfl rfl)
theorem dX3_countsAround_96 : decode cX3_countsAround 96 = .ok (.ifCond .gt (-49), 3) := dk_157 255 207 (dk_at dksX3_countsAround_4 2 rfl rfl)
theorem dX3_countsAround_99 : decode cX3_countsAround 99 = .ok (.iload_n 3, 1) := dk_29 (dk_at dksX3_countsAround_4 5 rfl rfl)
theorem dX3_countsAround_100 : decode cX3_countsAround 100 = .ok (.iload_n 2, 1) := dk_28 (dk_at dksX3_countsAround_4 6 rfl rfl)
theorem dX3_countsAround_101 : decode cX3_countsAround 101 = .ok (.iload 6, 2) := dk_21 6 (dk_at dksX3_countsAround_4 7 rfl rfl)
theorem dX3_countsAround_103 : decode cX3_countsAround 103 = .ok (.if_icmp .ge 7, 3) := dk_162 0 7 (dk_at dksX3_countsAround_4 9 rfl rfl)
theorem dX3_countsAround_106 : decode cX3_countsAround 106 = .ok (.iconst 1, 1) := dk_4 (dk_at dksX3_countsAround_4 12 rfl rfl)
theorem dX3_countsAround_107 : decode cX3_countsAround 107 = .ok (.goto 4, 3) := dk_167 0 4 (dk_at dksX3_countsAround_4 13 rfl rfl)
theorem dX3_countsAround_110 : decode cX3_countsAround 110 = .ok (.iconst 0, 1) := dk_3 (dk_at dksX3_countsAround_4 16 rfl rfl)
theorem dX3_countsAround_111 : decode cX3_countsAround 111 = .ok (.iadd, 1) := dk_96 (dk_at dksX3_countsAround_4 17 rfl rfl)
theorem dX3_countsAround_112 : decode cX3_countsAround 112 = .ok (.istore_n 3, 1) := dk_62 (dk_at dksX3_countsAround_4 18 rfl rfl)
theorem dX3_countsAround_113 : decode cX3_countsAround 113 = .ok (.iinc 4 1, 3) := dk_132 4 1 (dk_at dksX3_countsAround_4 19 rfl rfl)
theorem dX3_countsAround_116 : decode cX3_countsAround 116 = .ok (.goto (-111), 3) := dk_167 255 145 (dk_at dksX3_countsAround_5 0 rfl rfl)
theorem dX3_countsAround_119 : decode cX3_countsAround 119 = .ok (.iload_n 3, 1) := dk_29 (dk_at dksX3_countsAround_5 3 rfl rfl)
theorem dX3_countsAround_120 : decode cX3_countsAround 120 = .ok (.ireturn, 1) := dk_172 (dk_at dksX3_countsAround_5 4 rfl rfl)
abbrev cX3_groups : ByteArray := prog_27_method_86_code
def yX3_groups : MethodName := ⟨RX3, "groups", "(I)I"⟩
def dkwX3_groups_2 : List UInt8 := [132, 4, 1, 167, 255, 227, 42, 29, 182, 0, 69, 172]
abbrev dktX3_groups_2 : List UInt8 := dkwX3_groups_2 ++ []
def dkwX3_groups_1 : List UInt8 := [17, 1, 0, 162, 0, 27, 29, 42, 27, 21, 4, 182, 0, 162, 153, 0, 7, 4, 167, 0, 4, 3, 96, 62]
abbrev dktX3_groups_1 : List UInt8 := dkwX3_groups_1 ++ dktX3_groups_2
def dkwX3_groups_0 : List UInt8 := [42, 27, 182, 0, 121, 61, 28, 153, 0, 9, 42, 28, 182, 0, 80, 172, 3, 62, 3, 54, 4, 21, 4]
abbrev dktX3_groups_0 : List UInt8 := dkwX3_groups_0 ++ dktX3_groups_1
theorem dksX3_groups_0 : cX3_groups.data.toList.drop 0 = dktX3_groups_0 := by decide +kernel
theorem dksX3_groups_1 : cX3_groups.data.toList.drop 23 = dktX3_groups_1 := dk_seg dksX3_groups_0 23 rfl rfl
theorem dksX3_groups_2 : cX3_groups.data.toList.drop 47 = dktX3_groups_2 := dk_seg dksX3_groups_1 24 rfl rfl
theorem dX3_groups_0 : decode cX3_groups 0 = .ok (.aload_n 0, 1) := dk_42 (dk_at dksX3_groups_0 0 rfl rfl)
theorem dX3_groups_1 : decode cX3_groups 1 = .ok (.iload_n 1, 1) := dk_27 (dk_at dksX3_groups_0 1 rfl rfl)
theorem dX3_groups_2 : decode cX3_groups 2 = .ok (.invokevirtual 121, 3) := dk_182 0 121 (dk_at dksX3_groups_0 2 rfl rfl)
theorem dX3_groups_5 : decode cX3_groups 5 = .ok (.istore_n 2, 1) := dk_61 (dk_at dksX3_groups_0 5 rfl rfl)
theorem dX3_groups_6 : decode cX3_groups 6 = .ok (.iload_n 2, 1) := dk_28 (dk_at dksX3_groups_0 6 rfl rfl)
theorem dX3_groups_7 : decode cX3_groups 7 = .ok (.ifCond .eq 9, 3) := dk_153 0 9 (dk_at dksX3_groups_0 7 rfl rfl)
theorem dX3_groups_10 : decode cX3_groups 10 = .ok (.aload_n 0, 1) := dk_42 (dk_at dksX3_groups_0 10 rfl rfl)
theorem dX3_groups_11 : decode cX3_groups 11 = .ok (.iload_n 2, 1) := dk_28 (dk_at dksX3_groups_0 11 rfl rfl)
theorem dX3_groups_12 : decode cX3_groups 12 = .ok (.invokevirtual 80, 3) := dk_182 0 80 (dk_at dksX3_groups_0 12 rfl rfl)
theorem dX3_groups_15 : decode cX3_groups 15 = .ok (.ireturn, 1) := dk_172 (dk_at dksX3_groups_0 15 rfl rfl)
theorem dX3_groups_16 : decode cX3_groups 16 = .ok (.iconst 0, 1) := dk_3 (dk_at dksX3_groups_0 16 rfl rfl)
theorem dX3_groups_17 : decode cX3_groups 17 = .ok (.istore_n 3, 1) := dk_62 (dk_at dksX3_groups_0 17 rfl rfl)
theorem dX3_groups_18 : decode cX3_groups 18 = .ok (.iconst 0, 1) := dk_3 (dk_at dksX3_groups_0 18 rfl rfl)
theorem dX3_groups_19 : decode cX3_groups 19 = .ok (.istore 4, 2) := dk_54 4 (dk_at dksX3_groups_0 19 rfl rfl)
theorem dX3_groups_21 : decode cX3_groups 21 = .ok (.iload 4, 2) := dk_21 4 (dk_at dksX3_groups_0 21 rfl rfl)
theorem dX3_groups_23 : decode cX3_groups 23 = .ok (.sipush 256, 3) := dk_17 1 0 (dk_at dksX3_groups_1 0 rfl rfl)
theorem dX3_groups_26 : decode cX3_groups 26 = .ok (.if_icmp .ge 27, 3) := dk_162 0 27 (dk_at dksX3_groups_1 3 rfl rfl)
theorem dX3_groups_29 : decode cX3_groups 29 = .ok (.iload_n 3, 1) := dk_29 (dk_at dksX3_groups_1 6 rfl rfl)
theorem dX3_groups_30 : decode cX3_groups 30 = .ok (.aload_n 0, 1) := dk_42 (dk_at dksX3_groups_1 7 rfl rfl)
theorem dX3_groups_31 : decode cX3_groups 31 = .ok (.iload_n 1, 1) := dk_27 (dk_at dksX3_groups_1 8 rfl rfl)
theorem dX3_groups_32 : decode cX3_groups 32 = .ok (.iload 4, 2) := dk_21 4 (dk_at dksX3_groups_1 9 rfl rfl)
theorem dX3_groups_34 : decode cX3_groups 34 = .ok (.invokevirtual 162, 3) := dk_182 0 162 (dk_at dksX3_groups_1 11 rfl rfl)
theorem dX3_groups_37 : decode cX3_groups 37 = .ok (.ifCond .eq 7, 3) := dk_153 0 7 (dk_at dksX3_groups_1 14 rfl rfl)
theorem dX3_groups_40 : decode cX3_groups 40 = .ok (.iconst 1, 1) := dk_4 (dk_at dksX3_groups_1 17 rfl rfl)
theorem dX3_groups_41 : decode cX3_groups 41 = .ok (.goto 4, 3) := dk_167 0 4 (dk_at dksX3_groups_1 18 rfl rfl)
theorem dX3_groups_44 : decode cX3_groups 44 = .ok (.iconst 0, 1) := dk_3 (dk_at dksX3_groups_1 21 rfl rfl)
theorem dX3_groups_45 : decode cX3_groups 45 = .ok (.iadd, 1) := dk_96 (dk_at dksX3_groups_1 22 rfl rfl)
theorem dX3_groups_46 : decode cX3_groups 46 = .ok (.istore_n 3, 1) := dk_62 (dk_at dksX3_groups_1 23 rfl rfl)
theorem dX3_groups_47 : decode cX3_groups 47 = .ok (.iinc 4 1, 3) := dk_132 4 1 (dk_at dksX3_groups_2 0 rfl rfl)
theorem dX3_groups_50 : decode cX3_groups 50 = .ok (.goto (-29), 3) := dk_167 255 227 (dk_at dksX3_groups_2 3 rfl rfl)
theorem dX3_groups_53 : decode cX3_groups 53 = .ok (.aload_n 0, 1) := dk_42 (dk_at dksX3_groups_2 6 rfl rfl)
theorem dX3_groups_54 : decode cX3_groups 54 = .ok (.iload_n 3, 1) := dk_29 (dk_at dksX3_groups_2 7 rfl rfl)
theorem dX3_groups_55 : decode cX3_groups 55 = .ok (.invokevirtual 69, 3) := dk_182 0 69 (dk_at dksX3_groups_2 8 rfl rfl)
theorem dX3_groups_58 : decode cX3_groups 58 = .ok (.ireturn, 1) := dk_172 (dk_at dksX3_groups_2 11 rfl rfl)
abbrev cX3_smallest : ByteArray := prog_27_method_88_code
def yX3_smallest : MethodName := ⟨RX3, "smallest", "(II)I"⟩
def dkwX3_smallest_2 : List UInt8 := [21, 5, 182, 0, 69, 172, 132, 4, 1, 132, 5, 1, 167, 255, 219, 42, 5, 182, 0, 80, 172]
abbrev dktX3_smallest_2 : List UInt8 := dkwX3_smallest_2 ++ []
def dkwX3_smallest_1 : List UInt8 := [17, 1, 0, 162, 0, 35, 42, 27, 21, 5, 182, 1, 3, 153, 0, 19, 21, 4, 28, 160, 0, 10, 42]
abbrev dktX3_smallest_1 : List UInt8 := dkwX3_smallest_1 ++ dktX3_smallest_2
def dkwX3_smallest_0 : List UInt8 := [42, 27, 182, 0, 121, 62, 29, 153, 0, 9, 42, 29, 182, 0, 80, 172, 3, 54, 4, 3, 54, 5, 21, 5]
abbrev dktX3_smallest_0 : List UInt8 := dkwX3_smallest_0 ++ dktX3_smallest_1
theorem dksX3_smallest_0 : cX3_smallest.data.toList.drop 0 = dktX3_smallest_0 := by decide +kernel
theorem dksX3_smallest_1 : cX3_smallest.data.toList.drop 24 = dktX3_smallest_1 := dk_seg dksX3_smallest_0 24 rfl rfl
theorem dksX3_smallest_2 : cX3_smallest.data.toList.drop 47 = dktX3_smallest_2 := dk_seg dksX3_smallest_1 23 rfl rfl
theorem dX3_smallest_0 : decode cX3_smallest 0 = .ok (.aload_n 0, 1) := dk_42 (dk_at dksX3_smallest_0 0 rfl rfl)
theorem dX3_smallest_1 : decode cX3_smallest 1 = .ok (.iload_n 1, 1) := dk_27 (dk_at dksX3_smallest_0 1 rfl rfl)
theorem dX3_smallest_2 : decode cX3_smallest 2 = .ok (.invokevirtual 121, 3) := dk_182 0 121 (dk_at dksX3_smallest_0 2 rfl rfl)
theorem dX3_smallest_5 : decode cX3_smallest 5 = .ok (.istore_n 3, 1) := dk_62 (dk_at dksX3_smallest_0 5 rfl rfl)
theorem dX3_smallest_6 : decode cX3_smallest 6 = .ok (.iload_n 3, 1) := dk_29 (dk_at dksX3_smallest_0 6 rfl rfl)
theorem dX3_smallest_7 : decode cX3_smallest 7 = .ok (.ifCond .eq 9, 3) := dk_153 0 9 (dk_at dksX3_smallest_0 7 rfl rfl)
theorem dX3_smallest_10 : decode cX3_smallest 10 = .ok (.aload_n 0, 1) := dk_42 (dk_at dksX3_smallest_0 10 rfl rfl)
theorem dX3_smallest_11 : decode cX3_smallest 11 = .ok (.iload_n 3, 1) := dk_29 (dk_at dksX3_smallest_0 11 rfl rfl)
theorem dX3_smallest_12 : decode cX3_smallest 12 = .ok (.invokevirtual 80, 3) := dk_182 0 80 (dk_at dksX3_smallest_0 12 rfl rfl)
theorem dX3_smallest_15 : decode cX3_smallest 15 = .ok (.ireturn, 1) := dk_172 (dk_at dksX3_smallest_0 15 rfl rfl)
theorem dX3_smallest_16 : decode cX3_smallest 16 = .ok (.iconst 0, 1) := dk_3 (dk_at dksX3_smallest_0 16 rfl rfl)
theorem dX3_smallest_17 : decode cX3_smallest 17 = .ok (.istore 4, 2) := dk_54 4 (dk_at dksX3_smallest_0 17 rfl rfl)
theorem dX3_smallest_19 : decode cX3_smallest 19 = .ok (.iconst 0, 1) := dk_3 (dk_at dksX3_smallest_0 19 rfl rfl)
theorem dX3_smallest_20 : decode cX3_smallest 20 = .ok (.istore 5, 2) := dk_54 5 (dk_at dksX3_smallest_0 20 rfl rfl)
theorem dX3_smallest_22 : decode cX3_smallest 22 = .ok (.iload 5, 2) := dk_21 5 (dk_at dksX3_smallest_0 22 rfl rfl)
theorem dX3_smallest_24 : decode cX3_smallest 24 = .ok (.sipush 256, 3) := dk_17 1 0 (dk_at dksX3_smallest_1 0 rfl rfl)
theorem dX3_smallest_27 : decode cX3_smallest 27 = .ok (.if_icmp .ge 35, 3) := dk_162 0 35 (dk_at dksX3_smallest_1 3 rfl rfl)
theorem dX3_smallest_30 : decode cX3_smallest 30 = .ok (.aload_n 0, 1) := dk_42 (dk_at dksX3_smallest_1 6 rfl rfl)
theorem dX3_smallest_31 : decode cX3_smallest 31 = .ok (.iload_n 1, 1) := dk_27 (dk_at dksX3_smallest_1 7 rfl rfl)
theorem dX3_smallest_32 : decode cX3_smallest 32 = .ok (.iload 5, 2) := dk_21 5 (dk_at dksX3_smallest_1 8 rfl rfl)
theorem dX3_smallest_34 : decode cX3_smallest 34 = .ok (.invokevirtual 259, 3) := dk_182 1 3 (dk_at dksX3_smallest_1 10 rfl rfl)
theorem dX3_smallest_37 : decode cX3_smallest 37 = .ok (.ifCond .eq 19, 3) := dk_153 0 19 (dk_at dksX3_smallest_1 13 rfl rfl)
theorem dX3_smallest_40 : decode cX3_smallest 40 = .ok (.iload 4, 2) := dk_21 4 (dk_at dksX3_smallest_1 16 rfl rfl)
theorem dX3_smallest_42 : decode cX3_smallest 42 = .ok (.iload_n 2, 1) := dk_28 (dk_at dksX3_smallest_1 18 rfl rfl)
theorem dX3_smallest_43 : decode cX3_smallest 43 = .ok (.if_icmp .ne 10, 3) := dk_160 0 10 (dk_at dksX3_smallest_1 19 rfl rfl)
theorem dX3_smallest_46 : decode cX3_smallest 46 = .ok (.aload_n 0, 1) := dk_42 (dk_at dksX3_smallest_1 22 rfl rfl)
theorem dX3_smallest_47 : decode cX3_smallest 47 = .ok (.iload 5, 2) := dk_21 5 (dk_at dksX3_smallest_2 0 rfl rfl)
theorem dX3_smallest_49 : decode cX3_smallest 49 = .ok (.invokevirtual 69, 3) := dk_182 0 69 (dk_at dksX3_smallest_2 2 rfl rfl)
theorem dX3_smallest_52 : decode cX3_smallest 52 = .ok (.ireturn, 1) := dk_172 (dk_at dksX3_smallest_2 5 rfl rfl)
theorem dX3_smallest_53 : decode cX3_smallest 53 = .ok (.iinc 4 1, 3) := dk_132 4 1 (dk_at dksX3_smallest_2 6 rfl rfl)
theorem dX3_smallest_56 : decode cX3_smallest 56 = .ok (.iinc 5 1, 3) := dk_132 5 1 (dk_at dksX3_smallest_2 9 rfl rfl)
theorem dX3_smallest_59 : decode cX3_smallest 59 = .ok (.goto (-37), 3) := dk_167 255 219 (dk_at dksX3_smallest_2 12 rfl rfl)
theorem dX3_smallest_62 : decode cX3_smallest 62 = .ok (.aload_n 0, 1) := dk_42 (dk_at dksX3_smallest_2 15 rfl rfl)
theorem dX3_smallest_63 : decode cX3_smallest 63 = .ok (.iconst 2, 1) := dk_5 (dk_at dksX3_smallest_2 16 rfl rfl)
theorem dX3_smallest_64 : decode cX3_smallest 64 = .ok (.invokevirtual 80, 3) := dk_182 0 80 (dk_at dksX3_smallest_2 17 rfl rfl)
theorem dX3_smallest_67 : decode cX3_smallest 67 = .ok (.ireturn, 1) := dk_172 (dk_at dksX3_smallest_2 20 rfl rfl)
abbrev cX3_isSmallest : ByteArray := prog_27_method_87_code
def yX3_isSmallest : MethodName := ⟨RX3, "isSmallest", "(II)Z"⟩
def dkwX3_isSmallest_2 : List UInt8 := [167, 0, 4, 3, 62, 132, 4, 1, 167, 255, 211, 29, 172]
abbrev dktX3_isSmallest_2 : List UInt8 := dkwX3_isSmallest_2 ++ []
def dkwX3_isSmallest_1 : List UInt8 := [122, 4, 126, 153, 0, 19, 42, 27, 28, 4, 21, 4, 120, 2, 130, 126, 182, 0, 162, 154, 0, 7, 4]
abbrev dktX3_isSmallest_1 : List UInt8 := dkwX3_isSmallest_1 ++ dktX3_isSmallest_2
def dkwX3_isSmallest_0 : List UInt8 := [42, 27, 28, 182, 0, 162, 62, 3, 54, 4, 21, 4, 16, 8, 162, 0, 44, 29, 153, 0, 40, 28, 21, 4]
abbrev dktX3_isSmallest_0 : List UInt8 := dkwX3_isSmallest_0 ++ dktX3_isSmallest_1
theorem dksX3_isSmallest_0 : cX3_isSmallest.data.toList.drop 0 = dktX3_isSmallest_0 := by decide +kernel
theorem dksX3_isSmallest_1 : cX3_isSmallest.data.toList.drop 24 = dktX3_isSmallest_1 := dk_seg dksX3_isSmallest_0 24 rfl rfl
theorem dksX3_isSmallest_2 : cX3_isSmallest.data.toList.drop 47 = dktX3_isSmallest_2 := dk_seg dksX3_isSmallest_1 23 rfl rfl
theorem dX3_isSmallest_0 : decode cX3_isSmallest 0 = .ok (.aload_n 0, 1) := dk_42 (dk_at dksX3_isSmallest_0 0 rfl rfl)
theorem dX3_isSmallest_1 : decode cX3_isSmallest 1 = .ok (.iload_n 1, 1) := dk_27 (dk_at dksX3_isSmallest_0 1 rfl rfl)
theorem dX3_isSmallest_2 : decode cX3_isSmallest 2 = .ok (.iload_n 2, 1) := dk_28 (dk_at dksX3_isSmallest_0 2 rfl rfl)
theorem dX3_isSmallest_3 : decode cX3_isSmallest 3 = .ok (.invokevirtual 162, 3) := dk_182 0 162 (dk_at dksX3_isSmallest_0 3 rfl rfl)
theorem dX3_isSmallest_6 : decode cX3_isSmallest 6 = .ok (.istore_n 3, 1) := dk_62 (dk_at dksX3_isSmallest_0 6 rfl rfl)
theorem dX3_isSmallest_7 : decode cX3_isSmallest 7 = .ok (.iconst 0, 1) := dk_3 (dk_at dksX3_isSmallest_0 7 rfl rfl)
theorem dX3_isSmallest_8 : decode cX3_isSmallest 8 = .ok (.istore 4, 2) := dk_54 4 (dk_at dksX3_isSmallest_0 8 rfl rfl)
theorem dX3_isSmallest_10 : decode cX3_isSmallest 10 = .ok (.iload 4, 2) := dk_21 4 (dk_at dksX3_isSmallest_0 10 rfl rfl)
theorem dX3_isSmallest_12 : decode cX3_isSmallest 12 = .ok (.bipush 8, 2) := dk_16 8 (dk_at dksX3_isSmallest_0 12 rfl rfl)
theorem dX3_isSmallest_14 : decode cX3_isSmallest 14 = .ok (.if_icmp .ge 44, 3) := dk_162 0 44 (dk_at dksX3_isSmallest_0 14 rfl rfl)
theorem dX3_isSmallest_17 : decode cX3_isSmallest 17 = .ok (.iload_n 3, 1) := dk_29 (dk_at dksX3_isSmallest_0 17 rfl rfl)
theorem dX3_isSmallest_18 : decode cX3_isSmallest 18 = .ok (.ifCond .eq 40, 3) := dk_153 0 40 (dk_at dksX3_isSmallest_0 18 rfl rfl)
theorem dX3_isSmallest_21 : decode cX3_isSmallest 21 = .ok (.iload_n 2, 1) := dk_28 (dk_at dksX3_isSmallest_0 21 rfl rfl)
theorem dX3_isSmallest_22 : decode cX3_isSmallest 22 = .ok (.iload 4, 2) := dk_21 4 (dk_at dksX3_isSmallest_0 22 rfl rfl)
theorem dX3_isSmallest_24 : decode cX3_isSmallest 24 = .ok (.ishr, 1) := dk_122 (dk_at dksX3_isSmallest_1 0 rfl rfl)
theorem dX3_isSmallest_25 : decode cX3_isSmallest 25 = .ok (.iconst 1, 1) := dk_4 (dk_at dksX3_isSmallest_1 1 rfl rfl)
theorem dX3_isSmallest_26 : decode cX3_isSmallest 26 = .ok (.iand, 1) := dk_126 (dk_at dksX3_isSmallest_1 2 rfl rfl)
theorem dX3_isSmallest_27 : decode cX3_isSmallest 27 = .ok (.ifCond .eq 19, 3) := dk_153 0 19 (dk_at dksX3_isSmallest_1 3 rfl rfl)
theorem dX3_isSmallest_30 : decode cX3_isSmallest 30 = .ok (.aload_n 0, 1) := dk_42 (dk_at dksX3_isSmallest_1 6 rfl rfl)
theorem dX3_isSmallest_31 : decode cX3_isSmallest 31 = .ok (.iload_n 1, 1) := dk_27 (dk_at dksX3_isSmallest_1 7 rfl rfl)
theorem dX3_isSmallest_32 : decode cX3_isSmallest 32 = .ok (.iload_n 2, 1) := dk_28 (dk_at dksX3_isSmallest_1 8 rfl rfl)
theorem dX3_isSmallest_33 : decode cX3_isSmallest 33 = .ok (.iconst 1, 1) := dk_4 (dk_at dksX3_isSmallest_1 9 rfl rfl)
theorem dX3_isSmallest_34 : decode cX3_isSmallest 34 = .ok (.iload 4, 2) := dk_21 4 (dk_at dksX3_isSmallest_1 10 rfl rfl)
theorem dX3_isSmallest_36 : decode cX3_isSmallest 36 = .ok (.ishl, 1) := dk_120 (dk_at dksX3_isSmallest_1 12 rfl rfl)
theorem dX3_isSmallest_37 : decode cX3_isSmallest 37 = .ok (.iconst (-1), 1) := dk_2 (dk_at dksX3_isSmallest_1 13 rfl rfl)
theorem dX3_isSmallest_38 : decode cX3_isSmallest 38 = .ok (.ixor, 1) := dk_130 (dk_at dksX3_isSmallest_1 14 rfl rfl)
theorem dX3_isSmallest_39 : decode cX3_isSmallest 39 = .ok (.iand, 1) := dk_126 (dk_at dksX3_isSmallest_1 15 rfl rfl)
theorem dX3_isSmallest_40 : decode cX3_isSmallest 40 = .ok (.invokevirtual 162, 3) := dk_182 0 162 (dk_at dksX3_isSmallest_1 16 rfl rfl)
theorem dX3_isSmallest_43 : decode cX3_isSmallest 43 = .ok (.ifCond .ne 7, 3) := dk_154 0 7 (dk_at dksX3_isSmallest_1 19 rfl rfl)
theorem dX3_isSmallest_46 : decode cX3_isSmallest 46 = .ok (.iconst 1, 1) := dk_4 (dk_at dksX3_isSmallest_1 22 rfl rfl)
theorem dX3_isSmallest_47 : decode cX3_isSmallest 47 = .ok (.goto 4, 3) := dk_167 0 4 (dk_at dksX3_isSmallest_2 0 rfl rfl)
theorem dX3_isSmallest_50 : decode cX3_isSmallest 50 = .ok (.iconst 0, 1) := dk_3 (dk_at dksX3_isSmallest_2 3 rfl rfl)
theorem dX3_isSmallest_51 : decode cX3_isSmallest 51 = .ok (.istore_n 3, 1) := dk_62 (dk_at dksX3_isSmallest_2 4 rfl rfl)
theorem dX3_isSmallest_52 : decode cX3_isSmallest 52 = .ok (.iinc 4 1, 3) := dk_132 4 1 (dk_at dksX3_isSmallest_2 5 rfl rfl)
theorem dX3_isSmallest_55 : decode cX3_isSmallest 55 = .ok (.goto (-45), 3) := dk_167 255 211 (dk_at dksX3_isSmallest_2 8 rfl rfl)
theorem dX3_isSmallest_58 : decode cX3_isSmallest 58 = .ok (.iload_n 3, 1) := dk_29 (dk_at dksX3_isSmallest_2 11 rfl rfl)
theorem dX3_isSmallest_59 : decode cX3_isSmallest 59 = .ok (.ireturn, 1) := dk_172 (dk_at dksX3_isSmallest_2 12 rfl rfl)
abbrev cX3_powerBits : ByteArray := prog_27_method_89_code
def yX3_powerBits : MethodName := ⟨RX3, "powerBits", "(II)J"⟩
def dkwX3_powerBits_5 : List UInt8 := [184, 1, 8, 173]
abbrev dktX3_powerBits_5 : List UInt8 := dkwX3_powerBits_5 ++ []
def dkwX3_powerBits_4 : List UInt8 := [154, 0, 7, 4, 167, 0, 4, 3, 96, 62, 132, 4, 1, 167, 255, 201, 29, 135, 20, 1, 6, 111]
abbrev dktX3_powerBits_4 : List UInt8 := dkwX3_powerBits_4 ++ dktX3_powerBits_5
def dkwX3_powerBits_3 : List UInt8 := [27, 21, 4, 182, 0, 162, 153, 0, 23, 42, 27, 21, 4, 4, 28, 120, 2, 130, 126, 182, 0, 162]
abbrev dktX3_powerBits_3 : List UInt8 := dkwX3_powerBits_3 ++ dktX3_powerBits_4
def dkwX3_powerBits_2 : List UInt8 := [62, 3, 54, 4, 21, 4, 17, 1, 0, 162, 0, 53, 29, 21, 4, 28, 122, 4, 126, 4, 160, 0, 33, 42]
abbrev dktX3_powerBits_2 : List UInt8 := dkwX3_powerBits_2 ++ dktX3_powerBits_3
def dkwX3_powerBits_1 : List UInt8 := [182, 0, 49, 154, 0, 7, 5, 167, 0, 4, 3, 181, 0, 42, 42, 180, 0, 42, 153, 0, 5, 9, 173, 3]
abbrev dktX3_powerBits_1 : List UInt8 := dkwX3_powerBits_1 ++ dktX3_powerBits_2
def dkwX3_powerBits_0 : List UInt8 := [42, 27, 184, 0, 107, 153, 0, 10, 28, 184, 0, 76, 154, 0, 7, 4, 167, 0, 17, 42, 27, 3]
abbrev dktX3_powerBits_0 : List UInt8 := dkwX3_powerBits_0 ++ dktX3_powerBits_1
theorem dksX3_powerBits_0 : cX3_powerBits.data.toList.drop 0 = dktX3_powerBits_0 := by decide +kernel
theorem dksX3_powerBits_1 : cX3_powerBits.data.toList.drop 22 = dktX3_powerBits_1 := dk_seg dksX3_powerBits_0 22 rfl rfl
theorem dksX3_powerBits_2 : cX3_powerBits.data.toList.drop 46 = dktX3_powerBits_2 := dk_seg dksX3_powerBits_1 24 rfl rfl
theorem dksX3_powerBits_3 : cX3_powerBits.data.toList.drop 70 = dktX3_powerBits_3 := dk_seg dksX3_powerBits_2 24 rfl rfl
theorem dksX3_powerBits_4 : cX3_powerBits.data.toList.drop 92 = dktX3_powerBits_4 := dk_seg dksX3_powerBits_3 22 rfl rfl
theorem dksX3_powerBits_5 : cX3_powerBits.data.toList.drop 114 = dktX3_powerBits_5 := dk_seg dksX3_powerBits_4 22 rfl rfl
theorem dX3_powerBits_0 : decode cX3_powerBits 0 = .ok (.aload_n 0, 1) := dk_42 (dk_at dksX3_powerBits_0 0 rfl rfl)
theorem dX3_powerBits_1 : decode cX3_powerBits 1 = .ok (.iload_n 1, 1) := dk_27 (dk_at dksX3_powerBits_0 1 rfl rfl)
theorem dX3_powerBits_2 : decode cX3_powerBits 2 = .ok (.invokestatic 107, 3) := dk_184 0 107 (dk_at dksX3_powerBits_0 2 rfl rfl)
theorem dX3_powerBits_5 : decode cX3_powerBits 5 = .ok (.ifCond .eq 10, 3) := dk_153 0 10 (dk_at dksX3_powerBits_0 5 rfl rfl)
theorem dX3_powerBits_8 : decode cX3_powerBits 8 = .ok (.iload_n 2, 1) := dk_28 (dk_at dksX3_powerBits_0 8 rfl rfl)
theorem dX3_powerBits_9 : decode cX3_powerBits 9 = .ok (.invokestatic 76, 3) := dk_184 0 76 (dk_at dksX3_powerBits_0 9 rfl rfl)
theorem dX3_powerBits_12 : decode cX3_powerBits 12 = .ok (.ifCond .ne 7, 3) := dk_154 0 7 (dk_at dksX3_powerBits_0 12 rfl rfl)
theorem dX3_powerBits_15 : decode cX3_powerBits 15 = .ok (.iconst 1, 1) := dk_4 (dk_at dksX3_powerBits_0 15 rfl rfl)
theorem dX3_powerBits_16 : decode cX3_powerBits 16 = .ok (.goto 17, 3) := dk_167 0 17 (dk_at dksX3_powerBits_0 16 rfl rfl)
theorem dX3_powerBits_19 : decode cX3_powerBits 19 = .ok (.aload_n 0, 1) := dk_42 (dk_at dksX3_powerBits_0 19 rfl rfl)
theorem dX3_powerBits_20 : decode cX3_powerBits 20 = .ok (.iload_n 1, 1) := dk_27 (dk_at dksX3_powerBits_0 20 rfl rfl)
theorem dX3_powerBits_21 : decode cX3_powerBits 21 = .ok (.iconst 0, 1) := dk_3 (dk_at dksX3_powerBits_0 21 rfl rfl)
theorem dX3_powerBits_22 : decode cX3_powerBits 22 = .ok (.invokevirtual 49, 3) := dk_182 0 49 (dk_at dksX3_powerBits_1 0 rfl rfl)
theorem dX3_powerBits_25 : decode cX3_powerBits 25 = .ok (.ifCond .ne 7, 3) := dk_154 0 7 (dk_at dksX3_powerBits_1 3 rfl rfl)
theorem dX3_powerBits_28 : decode cX3_powerBits 28 = .ok (.iconst 2, 1) := dk_5 (dk_at dksX3_powerBits_1 6 rfl rfl)
theorem dX3_powerBits_29 : decode cX3_powerBits 29 = .ok (.goto 4, 3) := dk_167 0 4 (dk_at dksX3_powerBits_1 7 rfl rfl)
theorem dX3_powerBits_32 : decode cX3_powerBits 32 = .ok (.iconst 0, 1) := dk_3 (dk_at dksX3_powerBits_1 10 rfl rfl)
theorem dX3_powerBits_33 : decode cX3_powerBits 33 = .ok (.putfield 42, 3) := dk_181 0 42 (dk_at dksX3_powerBits_1 11 rfl rfl)
theorem dX3_powerBits_36 : decode cX3_powerBits 36 = .ok (.aload_n 0, 1) := dk_42 (dk_at dksX3_powerBits_1 14 rfl rfl)
theorem dX3_powerBits_37 : decode cX3_powerBits 37 = .ok (.getfield 42, 3) := dk_180 0 42 (dk_at dksX3_powerBits_1 15 rfl rfl)
theorem dX3_powerBits_40 : decode cX3_powerBits 40 = .ok (.ifCond .eq 5, 3) := dk_153 0 5 (dk_at dksX3_powerBits_1 18 rfl rfl)
theorem dX3_powerBits_43 : decode cX3_powerBits 43 = .ok (.lconst 0, 1) := dk_9 (dk_at dksX3_powerBits_1 21 rfl rfl)
theorem dX3_powerBits_44 : decode cX3_powerBits 44 = .ok (.lreturn, 1) := dk_173 (dk_at dksX3_powerBits_1 22 rfl rfl)
theorem dX3_powerBits_45 : decode cX3_powerBits 45 = .ok (.iconst 0, 1) := dk_3 (dk_at dksX3_powerBits_1 23 rfl rfl)
theorem dX3_powerBits_46 : decode cX3_powerBits 46 = .ok (.istore_n 3, 1) := dk_62 (dk_at dksX3_powerBits_2 0 rfl rfl)
theorem dX3_powerBits_47 : decode cX3_powerBits 47 = .ok (.iconst 0, 1) := dk_3 (dk_at dksX3_powerBits_2 1 rfl rfl)
theorem dX3_powerBits_48 : decode cX3_powerBits 48 = .ok (.istore 4, 2) := dk_54 4 (dk_at dksX3_powerBits_2 2 rfl rfl)
theorem dX3_powerBits_50 : decode cX3_powerBits 50 = .ok (.iload 4, 2) := dk_21 4 (dk_at dksX3_powerBits_2 4 rfl rfl)
theorem dX3_powerBits_52 : decode cX3_powerBits 52 = .ok (.sipush 256, 3) := dk_17 1 0 (dk_at dksX3_powerBits_2 6 rfl rfl)
theorem dX3_powerBits_55 : decode cX3_powerBits 55 = .ok (.if_icmp .ge 53, 3) := dk_162 0 53 (dk_at dksX3_powerBits_2 9 rfl rfl)
theorem dX3_powerBits_58 : decode cX3_powerBits 58 = .ok (.iload_n 3, 1) := dk_29 (dk_at dksX3_powerBits_2 12 rfl rfl)
theorem dX3_powerBits_59 : decode cX3_powerBits 59 = .ok (.iload 4, 2) := dk_21 4 (dk_at dksX3_powerBits_2 13 rfl rfl)
theorem dX3_powerBits_61 : decode cX3_powerBits 61 = .ok (.iload_n 2, 1) := dk_28 (dk_at dksX3_powerBits_2 15 rfl rfl)
theorem dX3_powerBits_62 : decode cX3_powerBits 62 = .ok (.ishr, 1) := dk_122 (dk_at dksX3_powerBits_2 16 rfl rfl)
theorem dX3_powerBits_63 : decode cX3_powerBits 63 = .ok (.iconst 1, 1) := dk_4 (dk_at dksX3_powerBits_2 17 rfl rfl)
theorem dX3_powerBits_64 : decode cX3_powerBits 64 = .ok (.iand, 1) := dk_126 (dk_at dksX3_powerBits_2 18 rfl rfl)
theorem dX3_powerBits_65 : decode cX3_powerBits 65 = .ok (.iconst 1, 1) := dk_4 (dk_at dksX3_powerBits_2 19 rfl rfl)
theorem dX3_powerBits_66 : decode cX3_powerBits 66 = .ok (.if_icmp .ne 33, 3) := dk_160 0 33 (dk_at dksX3_powerBits_2 20 rfl rfl)
theorem dX3_powerBits_69 : decode cX3_powerBits 69 = .ok (.aload_n 0, 1) := dk_42 (dk_at dksX3_powerBits_2 23 rfl rfl)
theorem dX3_powerBits_70 : decode cX3_powerBits 70 = .ok (.iload_n 1, 1) := dk_27 (dk_at dksX3_powerBits_3 0 rfl rfl)
theorem dX3_powerBits_71 : decode cX3_powerBits 71 = .ok (.iload 4, 2) := dk_21 4 (dk_at dksX3_powerBits_3 1 rfl rfl)
theorem dX3_powerBits_73 : decode cX3_powerBits 73 = .ok (.invokevirtual 162, 3) := dk_182 0 162 (dk_at dksX3_powerBits_3 3 rfl rfl)
theorem dX3_powerBits_76 : decode cX3_powerBits 76 = .ok (.ifCond .eq 23, 3) := dk_153 0 23 (dk_at dksX3_powerBits_3 6 rfl rfl)
theorem dX3_powerBits_79 : decode cX3_powerBits 79 = .ok (.aload_n 0, 1) := dk_42 (dk_at dksX3_powerBits_3 9 rfl rfl)
theorem dX3_powerBits_80 : decode cX3_powerBits 80 = .ok (.iload_n 1, 1) := dk_27 (dk_at dksX3_powerBits_3 10 rfl rfl)
theorem dX3_powerBits_81 : decode cX3_powerBits 81 = .ok (.iload 4, 2) := dk_21 4 (dk_at dksX3_powerBits_3 11 rfl rfl)
theorem dX3_powerBits_83 : decode cX3_powerBits 83 = .ok (.iconst 1, 1) := dk_4 (dk_at dksX3_powerBits_3 13 rfl rfl)
theorem dX3_powerBits_84 : decode cX3_powerBits 84 = .ok (.iload_n 2, 1) := dk_28 (dk_at dksX3_powerBits_3 14 rfl rfl)
theorem dX3_powerBits_85 : decode cX3_powerBits 85 = .ok (.ishl, 1) := dk_120 (dk_at dksX3_powerBits_3 15 rfl rfl)
theorem dX3_powerBits_86 : decode cX3_powerBits 86 = .ok (.iconst (-1), 1) := dk_2 (dk_at dksX3_powerBits_3 16 rfl rfl)
theorem dX3_powerBits_87 : decode cX3_powerBits 87 = .ok (.ixor, 1) := dk_130 (dk_at dksX3_powerBits_3 17 rfl rfl)
theorem dX3_powerBits_88 : decode cX3_powerBits 88 = .ok (.iand, 1) := dk_126 (dk_at dksX3_powerBits_3 18 rfl rfl)
theorem dX3_powerBits_89 : decode cX3_powerBits 89 = .ok (.invokevirtual 162, 3) := dk_182 0 162 (dk_at dksX3_powerBits_3 19 rfl rfl)
theorem dX3_powerBits_92 : decode cX3_powerBits 92 = .ok (.ifCond .ne 7, 3) := dk_154 0 7 (dk_at dksX3_powerBits_4 0 rfl rfl)
theorem dX3_powerBits_95 : decode cX3_powerBits 95 = .ok (.iconst 1, 1) := dk_4 (dk_at dksX3_powerBits_4 3 rfl rfl)
theorem dX3_powerBits_96 : decode cX3_powerBits 96 = .ok (.goto 4, 3) := dk_167 0 4 (dk_at dksX3_powerBits_4 4 rfl rfl)
theorem dX3_powerBits_99 : decode cX3_powerBits 99 = .ok (.iconst 0, 1) := dk_3 (dk_at dksX3_powerBits_4 7 rfl rfl)
theorem dX3_powerBits_100 : decode cX3_powerBits 100 = .ok (.iadd, 1) := dk_96 (dk_at dksX3_powerBits_4 8 rfl rfl)
theorem dX3_powerBits_101 : decode cX3_powerBits 101 = .ok (.istore_n 3, 1) := dk_62 (dk_at dksX3_powerBits_4 9 rfl rfl)
theorem dX3_powerBits_102 : decode cX3_powerBits 102 = .ok (.iinc 4 1, 3) := dk_132 4 1 (dk_at dksX3_powerBits_4 10 rfl rfl)
theorem dX3_powerBits_105 : decode cX3_powerBits 105 = .ok (.goto (-55), 3) := dk_167 255 201 (dk_at dksX3_powerBits_4 13 rfl rfl)
theorem dX3_powerBits_108 : decode cX3_powerBits 108 = .ok (.iload_n 3, 1) := dk_29 (dk_at dksX3_powerBits_4 16 rfl rfl)
theorem dX3_powerBits_109 : decode cX3_powerBits 109 = .ok (.i2d, 1) := dk_135 (dk_at dksX3_powerBits_4 17 rfl rfl)
theorem dX3_powerBits_110 : decode cX3_powerBits 110 = .ok (.ldc2_w 262, 3) := dk_20 1 6 (dk_at dksX3_powerBits_4 18 rfl rfl)
theorem dX3_powerBits_113 : decode cX3_powerBits 113 = .ok (.ddiv, 1) := dk_111 (dk_at dksX3_powerBits_4 21 rfl rfl)
theorem dX3_powerBits_114 : decode cX3_powerBits 114 = .ok (.invokestatic 264, 3) := dk_184 1 8 (dk_at dksX3_powerBits_5 0 rfl rfl)
theorem dX3_powerBits_117 : decode cX3_powerBits 117 = .ok (.lreturn, 1) := dk_173 (dk_at dksX3_powerBits_5 3 rfl rfl)
abbrev cX3_healthBits : ByteArray := prog_27_method_90_code
def yX3_healthBits : MethodName := ⟨RX3, "healthBits", "(I)I"⟩
def dkwX3_healthBits_2 : List UInt8 := [184, 1, 14, 182, 0, 69, 172]
abbrev dktX3_healthBits_2 : List UInt8 := dkwX3_healthBits_2 ++ []
def dkwX3_healthBits_1 : List UInt8 := [154, 0, 11, 42, 6, 182, 0, 80, 167, 0, 20, 42, 42, 27, 3, 182, 0, 180, 134, 29, 134, 110]
abbrev dktX3_healthBits_1 : List UInt8 := dkwX3_healthBits_1 ++ dktX3_healthBits_2
def dkwX3_healthBits_0 : List UInt8 := [42, 27, 182, 0, 121, 61, 28, 153, 0, 9, 42, 28, 182, 0, 80, 172, 42, 27, 2, 182, 0, 180, 62, 29]
abbrev dktX3_healthBits_0 : List UInt8 := dkwX3_healthBits_0 ++ dktX3_healthBits_1
theorem dksX3_healthBits_0 : cX3_healthBits.data.toList.drop 0 = dktX3_healthBits_0 := by decide +kernel
theorem dksX3_healthBits_1 : cX3_healthBits.data.toList.drop 24 = dktX3_healthBits_1 := dk_seg dksX3_healthBits_0 24 rfl rfl
theorem dksX3_healthBits_2 : cX3_healthBits.data.toList.drop 46 = dktX3_healthBits_2 := dk_seg dksX3_healthBits_1 22 rfl rfl
theorem dX3_healthBits_0 : decode cX3_healthBits 0 = .ok (.aload_n 0, 1) := dk_42 (dk_at dksX3_healthBits_0 0 rfl rfl)
theorem dX3_healthBits_1 : decode cX3_healthBits 1 = .ok (.iload_n 1, 1) := dk_27 (dk_at dksX3_healthBits_0 1 rfl rfl)
theorem dX3_healthBits_2 : decode cX3_healthBits 2 = .ok (.invokevirtual 121, 3) := dk_182 0 121 (dk_at dksX3_healthBits_0 2 rfl rfl)
theorem dX3_healthBits_5 : decode cX3_healthBits 5 = .ok (.istore_n 2, 1) := dk_61 (dk_at dksX3_healthBits_0 5 rfl rfl)
theorem dX3_healthBits_6 : decode cX3_healthBits 6 = .ok (.iload_n 2, 1) := dk_28 (dk_at dksX3_healthBits_0 6 rfl rfl)
theorem dX3_healthBits_7 : decode cX3_healthBits 7 = .ok (.ifCond .eq 9, 3) := dk_153 0 9 (dk_at dksX3_healthBits_0 7 rfl rfl)
theorem dX3_healthBits_10 : decode cX3_healthBits 10 = .ok (.aload_n 0, 1) := dk_42 (dk_at dksX3_healthBits_0 10 rfl rfl)
theorem dX3_healthBits_11 : decode cX3_healthBits 11 = .ok (.iload_n 2, 1) := dk_28 (dk_at dksX3_healthBits_0 11 rfl rfl)
theorem dX3_healthBits_12 : decode cX3_healthBits 12 = .ok (.invokevirtual 80, 3) := dk_182 0 80 (dk_at dksX3_healthBits_0 12 rfl rfl)
theorem dX3_healthBits_15 : decode cX3_healthBits 15 = .ok (.ireturn, 1) := dk_172 (dk_at dksX3_healthBits_0 15 rfl rfl)
theorem dX3_healthBits_16 : decode cX3_healthBits 16 = .ok (.aload_n 0, 1) := dk_42 (dk_at dksX3_healthBits_0 16 rfl rfl)
theorem dX3_healthBits_17 : decode cX3_healthBits 17 = .ok (.iload_n 1, 1) := dk_27 (dk_at dksX3_healthBits_0 17 rfl rfl)
theorem dX3_healthBits_18 : decode cX3_healthBits 18 = .ok (.iconst (-1), 1) := dk_2 (dk_at dksX3_healthBits_0 18 rfl rfl)
theorem dX3_healthBits_19 : decode cX3_healthBits 19 = .ok (.invokevirtual 180, 3) := dk_182 0 180 (dk_at dksX3_healthBits_0 19 rfl rfl)
theorem dX3_healthBits_22 : decode cX3_healthBits 22 = .ok (.istore_n 3, 1) := dk_62 (dk_at dksX3_healthBits_0 22 rfl rfl)
theorem dX3_healthBits_23 : decode cX3_healthBits 23 = .ok (.iload_n 3, 1) := dk_29 (dk_at dksX3_healthBits_0 23 rfl rfl)
theorem dX3_healthBits_24 : decode cX3_healthBits 24 = .ok (.ifCond .ne 11, 3) := dk_154 0 11 (dk_at dksX3_healthBits_1 0 rfl rfl)
theorem dX3_healthBits_27 : decode cX3_healthBits 27 = .ok (.aload_n 0, 1) := dk_42 (dk_at dksX3_healthBits_1 3 rfl rfl)
theorem dX3_healthBits_28 : decode cX3_healthBits 28 = .ok (.iconst 3, 1) := dk_6 (dk_at dksX3_healthBits_1 4 rfl rfl)
theorem dX3_healthBits_29 : decode cX3_healthBits 29 = .ok (.invokevirtual 80, 3) := dk_182 0 80 (dk_at dksX3_healthBits_1 5 rfl rfl)
theorem dX3_healthBits_32 : decode cX3_healthBits 32 = .ok (.goto 20, 3) := dk_167 0 20 (dk_at dksX3_healthBits_1 8 rfl rfl)
theorem dX3_healthBits_35 : decode cX3_healthBits 35 = .ok (.aload_n 0, 1) := dk_42 (dk_at dksX3_healthBits_1 11 rfl rfl)
theorem dX3_healthBits_36 : decode cX3_healthBits 36 = .ok (.aload_n 0, 1) := dk_42 (dk_at dksX3_healthBits_1 12 rfl rfl)
theorem dX3_healthBits_37 : decode cX3_healthBits 37 = .ok (.iload_n 1, 1) := dk_27 (dk_at dksX3_healthBits_1 13 rfl rfl)
theorem dX3_healthBits_38 : decode cX3_healthBits 38 = .ok (.iconst 0, 1) := dk_3 (dk_at dksX3_healthBits_1 14 rfl rfl)
theorem dX3_healthBits_39 : decode cX3_healthBits 39 = .ok (.invokevirtual 180, 3) := dk_182 0 180 (dk_at dksX3_healthBits_1 15 rfl rfl)
theorem dX3_healthBits_42 : decode cX3_healthBits 42 = .ok (.i2f, 1) := dk_134 (dk_at dksX3_healthBits_1 18 rfl rfl)
theorem dX3_healthBits_43 : decode cX3_healthBits 43 = .ok (.iload_n 3, 1) := dk_29 (dk_at dksX3_healthBits_1 19 rfl rfl)
theorem dX3_healthBits_44 : decode cX3_healthBits 44 = .ok (.i2f, 1) := dk_134 (dk_at dksX3_healthBits_1 20 rfl rfl)
theorem dX3_healthBits_45 : decode cX3_healthBits 45 = .ok (.fdiv, 1) := dk_110 (dk_at dksX3_healthBits_1 21 rfl rfl)
theorem dX3_healthBits_46 : decode cX3_healthBits 46 = .ok (.invokestatic 270, 3) := dk_184 1 14 (dk_at dksX3_healthBits_2 0 rfl rfl)
theorem dX3_healthBits_49 : decode cX3_healthBits 49 = .ok (.invokevirtual 69, 3) := dk_182 0 69 (dk_at dksX3_healthBits_2 3 rfl rfl)
theorem dX3_healthBits_52 : decode cX3_healthBits 52 = .ok (.ireturn, 1) := dk_172 (dk_at dksX3_healthBits_2 6 rfl rfl)
abbrev cX3_levels : ByteArray := prog_27_method_91_code
def yX3_levels : MethodName := ⟨RX3, "levels", "()I"⟩
def dkwX3_levels_0 : List UInt8 := [42, 42, 180, 0, 153, 182, 0, 69, 172]
abbrev dktX3_levels_0 : List UInt8 := dkwX3_levels_0 ++ []
theorem dksX3_levels_0 : cX3_levels.data.toList.drop 0 = dktX3_levels_0 := by decide +kernel
theorem dX3_levels_0 : decode cX3_levels 0 = .ok (.aload_n 0, 1) := dk_42 (dk_at dksX3_levels_0 0 rfl rfl)
theorem dX3_levels_1 : decode cX3_levels 1 = .ok (.aload_n 0, 1) := dk_42 (dk_at dksX3_levels_0 1 rfl rfl)
theorem dX3_levels_2 : decode cX3_levels 2 = .ok (.getfield 153, 3) := dk_180 0 153 (dk_at dksX3_levels_0 2 rfl rfl)
theorem dX3_levels_5 : decode cX3_levels 5 = .ok (.invokevirtual 69, 3) := dk_182 0 69 (dk_at dksX3_levels_0 5 rfl rfl)
theorem dX3_levels_8 : decode cX3_levels 8 = .ok (.ireturn, 1) := dk_172 (dk_at dksX3_levels_0 8 rfl rfl)
abbrev cX3_report : ByteArray := prog_27_method_92_code
def yX3_report : MethodName := ⟨RX3, "report", "(II)I"⟩
def dkwX3_report_2 : List UInt8 := [46, 182, 0, 69, 167, 0, 8, 42, 5, 182, 0, 80, 172]
abbrev dktX3_report_2 : List UInt8 := dkwX3_report_2 ++ []
def dkwX3_report_1 : List UInt8 := [42, 42, 180, 0, 22, 27, 46, 182, 0, 69, 167, 0, 26, 28, 4, 160, 0, 16, 42, 42, 180, 0, 25, 27]
abbrev dktX3_report_1 : List UInt8 := dkwX3_report_1 ++ dktX3_report_2
def dkwX3_report_0 : List UInt8 := [27, 3, 42, 180, 0, 153, 4, 100, 184, 0, 45, 154, 0, 9, 42, 4, 182, 0, 80, 172, 28, 154, 0, 16]
abbrev dktX3_report_0 : List UInt8 := dkwX3_report_0 ++ dktX3_report_1
theorem dksX3_report_0 : cX3_report.data.toList.drop 0 = dktX3_report_0 := by decide +kernel
theorem dksX3_report_1 : cX3_report.data.toList.drop 24 = dktX3_report_1 := dk_seg dksX3_report_0 24 rfl rfl
theorem dksX3_report_2 : cX3_report.data.toList.drop 48 = dktX3_report_2 := dk_seg dksX3_report_1 24 rfl rfl
theorem dX3_report_0 : decode cX3_report 0 = .ok (.iload_n 1, 1) := dk_27 (dk_at dksX3_report_0 0 rfl rfl)
theorem dX3_report_1 : decode cX3_report 1 = .ok (.iconst 0, 1) := dk_3 (dk_at dksX3_report_0 1 rfl rfl)
theorem dX3_report_2 : decode cX3_report 2 = .ok (.aload_n 0, 1) := dk_42 (dk_at dksX3_report_0 2 rfl rfl)
theorem dX3_report_3 : decode cX3_report 3 = .ok (.getfield 153, 3) := dk_180 0 153 (dk_at dksX3_report_0 3 rfl rfl)
theorem dX3_report_6 : decode cX3_report 6 = .ok (.iconst 1, 1) := dk_4 (dk_at dksX3_report_0 6 rfl rfl)
theorem dX3_report_7 : decode cX3_report 7 = .ok (.isub, 1) := dk_100 (dk_at dksX3_report_0 7 rfl rfl)
theorem dX3_report_8 : decode cX3_report 8 = .ok (.invokestatic 45, 3) := dk_184 0 45 (dk_at dksX3_report_0 8 rfl rfl)
theorem dX3_report_11 : decode cX3_report 11 = .ok (.ifCond .ne 9, 3) := dk_154 0 9 (dk_at dksX3_report_0 11 rfl rfl)
theorem dX3_report_14 : decode cX3_report 14 = .ok (.aload_n 0, 1) := dk_42 (dk_at dksX3_report_0 14 rfl rfl)
theorem dX3_report_15 : decode cX3_report 15 = .ok (.iconst 1, 1) := dk_4 (dk_at dksX3_report_0 15 rfl rfl)
theorem dX3_report_16 : decode cX3_report 16 = .ok (.invokevirtual 80, 3) := dk_182 0 80 (dk_at dksX3_report_0 16 rfl rfl)
theorem dX3_report_19 : decode cX3_report 19 = .ok (.ireturn, 1) := dk_172 (dk_at dksX3_report_0 19 rfl rfl)
theorem dX3_report_20 : decode cX3_report 20 = .ok (.iload_n 2, 1) := dk_28 (dk_at dksX3_report_0 20 rfl rfl)
theorem dX3_report_21 : decode cX3_report 21 = .ok (.ifCond .ne 16, 3) := dk_154 0 16 (dk_at dksX3_report_0 21 rfl rfl)
theorem dX3_report_24 : decode cX3_report 24 = .ok (.aload_n 0, 1) := dk_42 (dk_at dksX3_report_1 0 rfl rfl)
theorem dX3_report_25 : decode cX3_report 25 = .ok (.aload_n 0, 1) := dk_42 (dk_at dksX3_report_1 1 rfl rfl)
theorem dX3_report_26 : decode cX3_report 26 = .ok (.getfield 22, 3) := dk_180 0 22 (dk_at dksX3_report_1 2 rfl rfl)
theorem dX3_report_29 : decode cX3_report 29 = .ok (.iload_n 1, 1) := dk_27 (dk_at dksX3_report_1 5 rfl rfl)
theorem dX3_report_30 : decode cX3_report 30 = .ok (.iaload, 1) := dk_46 (dk_at dksX3_report_1 6 rfl rfl)
theorem dX3_report_31 : decode cX3_report 31 = .ok (.invokevirtual 69, 3) := dk_182 0 69 (dk_at dksX3_report_1 7 rfl rfl)
theorem dX3_report_34 : decode cX3_report 34 = .ok (.goto 26, 3) := dk_167 0 26 (dk_at dksX3_report_1 10 rfl rfl)
theorem dX3_report_37 : decode cX3_report 37 = .ok (.iload_n 2, 1) := dk_28 (dk_at dksX3_report_1 13 rfl rfl)
theorem dX3_report_38 : decode cX3_report 38 = .ok (.iconst 1, 1) := dk_4 (dk_at dksX3_report_1 14 rfl rfl)
theorem dX3_report_39 : decode cX3_report 39 = .ok (.if_icmp .ne 16, 3) := dk_160 0 16 (dk_at dksX3_report_1 15 rfl rfl)
theorem dX3_report_42 : decode cX3_report 42 = .ok (.aload_n 0, 1) := dk_42 (dk_at dksX3_report_1 18 rfl rfl)
theorem dX3_report_43 : decode cX3_report 43 = .ok (.aload_n 0, 1) := dk_42 (dk_at dksX3_report_1 19 rfl rfl)
theorem dX3_report_44 : decode cX3_report 44 = .ok (.getfield 25, 3) := dk_180 0 25 (dk_at dksX3_report_1 20 rfl rfl)
theorem dX3_report_47 : decode cX3_report 47 = .ok (.iload_n 1, 1) := dk_27 (dk_at dksX3_report_1 23 rfl rfl)
theorem dX3_report_48 : decode cX3_report 48 = .ok (.iaload, 1) := dk_46 (dk_at dksX3_report_2 0 rfl rfl)
theorem dX3_report_49 : decode cX3_report 49 = .ok (.invokevirtual 69, 3) := dk_182 0 69 (dk_at dksX3_report_2 1 rfl rfl)
theorem dX3_report_52 : decode cX3_report 52 = .ok (.goto 8, 3) := dk_167 0 8 (dk_at dksX3_report_2 4 rfl rfl)
theorem dX3_report_55 : decode cX3_report 55 = .ok (.aload_n 0, 1) := dk_42 (dk_at dksX3_report_2 7 rfl rfl)
theorem dX3_report_56 : decode cX3_report 56 = .ok (.iconst 2, 1) := dk_5 (dk_at dksX3_report_2 8 rfl rfl)
theorem dX3_report_57 : decode cX3_report 57 = .ok (.invokevirtual 80, 3) := dk_182 0 80 (dk_at dksX3_report_2 9 rfl rfl)
theorem dX3_report_60 : decode cX3_report 60 = .ok (.ireturn, 1) := dk_172 (dk_at dksX3_report_2 12 rfl rfl)
abbrev cX3_event : ByteArray := prog_27_method_93_code
def yX3_event : MethodName := ⟨RX3, "event", "(I)I"⟩
def dkwX3_event_1 : List UInt8 := [27, 96, 46, 182, 0, 69, 167, 0, 8, 42, 4, 182, 0, 80, 172]
abbrev dktX3_event_1 : List UInt8 := dkwX3_event_1 ++ []
def dkwX3_event_0 : List UInt8 := [27, 3, 42, 180, 0, 7, 16, 17, 46, 4, 100, 184, 0, 45, 153, 0, 19, 42, 42, 180, 0, 7, 16, 18]
abbrev dktX3_event_0 : List UInt8 := dkwX3_event_0 ++ dktX3_event_1
theorem dksX3_event_0 : cX3_event.data.toList.drop 0 = dktX3_event_0 := by decide +kernel
theorem dksX3_event_1 : cX3_event.data.toList.drop 24 = dktX3_event_1 := dk_seg dksX3_event_0 24 rfl rfl
theorem dX3_event_0 : decode cX3_event 0 = .ok (.iload_n 1, 1) := dk_27 (dk_at dksX3_event_0 0 rfl rfl)
theorem dX3_event_1 : decode cX3_event 1 = .ok (.iconst 0, 1) := dk_3 (dk_at dksX3_event_0 1 rfl rfl)
theorem dX3_event_2 : decode cX3_event 2 = .ok (.aload_n 0, 1) := dk_42 (dk_at dksX3_event_0 2 rfl rfl)
theorem dX3_event_3 : decode cX3_event 3 = .ok (.getfield 7, 3) := dk_180 0 7 (dk_at dksX3_event_0 3 rfl rfl)
theorem dX3_event_6 : decode cX3_event 6 = .ok (.bipush 17, 2) := dk_16 17 (dk_at dksX3_event_0 6 rfl rfl)
theorem dX3_event_8 : decode cX3_event 8 = .ok (.iaload, 1) := dk_46 (dk_at dksX3_event_0 8 rfl rfl)
theorem dX3_event_9 : decode cX3_event 9 = .ok (.iconst 1, 1) := dk_4 (dk_at dksX3_event_0 9 rfl rfl)
theorem dX3_event_10 : decode cX3_event 10 = .ok (.isub, 1) := dk_100 (dk_at dksX3_event_0 10 rfl rfl)
theorem dX3_event_11 : decode cX3_event 11 = .ok (.invokestatic 45, 3) := dk_184 0 45 (dk_at dksX3_event_0 11 rfl rfl)
theorem dX3_event_14 : decode cX3_event 14 = .ok (.ifCond .eq 19, 3) := dk_153 0 19 (dk_at dksX3_event_0 14 rfl rfl)
theorem dX3_event_17 : decode cX3_event 17 = .ok (.aload_n 0, 1) := dk_42 (dk_at dksX3_event_0 17 rfl rfl)
theorem dX3_event_18 : decode cX3_event 18 = .ok (.aload_n 0, 1) := dk_42 (dk_at dksX3_event_0 18 rfl rfl)
theorem dX3_event_19 : decode cX3_event 19 = .ok (.getfield 7, 3) := dk_180 0 7 (dk_at dksX3_event_0 19 rfl rfl)
theorem dX3_event_22 : decode cX3_event 22 = .ok (.bipush 18, 2) := dk_16 18 (dk_at dksX3_event_0 22 rfl rfl)
theorem dX3_event_24 : decode cX3_event 24 = .ok (.iload_n 1, 1) := dk_27 (dk_at dksX3_event_1 0 rfl rfl)
theorem dX3_event_25 : decode cX3_event 25 = .ok (.iadd, 1) := dk_96 (dk_at dksX3_event_1 1 rfl rfl)
theorem dX3_event_26 : decode cX3_event 26 = .ok (.iaload, 1) := dk_46 (dk_at dksX3_event_1 2 rfl rfl)
theorem dX3_event_27 : decode cX3_event 27 = .ok (.invokevirtual 69, 3) := dk_182 0 69 (dk_at dksX3_event_1 3 rfl rfl)
theorem dX3_event_30 : decode cX3_event 30 = .ok (.goto 8, 3) := dk_167 0 8 (dk_at dksX3_event_1 6 rfl rfl)
theorem dX3_event_33 : decode cX3_event 33 = .ok (.aload_n 0, 1) := dk_42 (dk_at dksX3_event_1 9 rfl rfl)
theorem dX3_event_34 : decode cX3_event 34 = .ok (.iconst 1, 1) := dk_4 (dk_at dksX3_event_1 10 rfl rfl)
theorem dX3_event_35 : decode cX3_event 35 = .ok (.invokevirtual 80, 3) := dk_182 0 80 (dk_at dksX3_event_1 11 rfl rfl)
theorem dX3_event_38 : decode cX3_event 38 = .ok (.ireturn, 1) := dk_172 (dk_at dksX3_event_1 14 rfl rfl)
abbrev cX3_save : ByteArray := prog_27_method_95_code
def yX3_save : MethodName := ⟨RX3, "save", "()I"⟩
def dkwX3_save_1 : List UInt8 := [46, 79, 132, 1, 1, 167, 255, 234, 42, 42, 182, 1, 24, 182, 0, 69, 172]
abbrev dktX3_save_1 : List UInt8 := dkwX3_save_1 ++ []
def dkwX3_save_0 : List UInt8 := [42, 4, 181, 1, 20, 3, 60, 27, 17, 2, 22, 162, 0, 21, 42, 180, 0, 13, 27, 42, 180, 0, 7, 27]
abbrev dktX3_save_0 : List UInt8 := dkwX3_save_0 ++ dktX3_save_1
theorem dksX3_save_0 : cX3_save.data.toList.drop 0 = dktX3_save_0 := by decide +kernel
theorem dksX3_save_1 : cX3_save.data.toList.drop 24 = dktX3_save_1 := dk_seg dksX3_save_0 24 rfl rfl
theorem dX3_save_0 : decode cX3_save 0 = .ok (.aload_n 0, 1) := dk_42 (dk_at dksX3_save_0 0 rfl rfl)
theorem dX3_save_1 : decode cX3_save 1 = .ok (.iconst 1, 1) := dk_4 (dk_at dksX3_save_0 1 rfl rfl)
theorem dX3_save_2 : decode cX3_save 2 = .ok (.putfield 276, 3) := dk_181 1 20 (dk_at dksX3_save_0 2 rfl rfl)
theorem dX3_save_5 : decode cX3_save 5 = .ok (.iconst 0, 1) := dk_3 (dk_at dksX3_save_0 5 rfl rfl)
theorem dX3_save_6 : decode cX3_save 6 = .ok (.istore_n 1, 1) := dk_60 (dk_at dksX3_save_0 6 rfl rfl)
theorem dX3_save_7 : decode cX3_save 7 = .ok (.iload_n 1, 1) := dk_27 (dk_at dksX3_save_0 7 rfl rfl)
theorem dX3_save_8 : decode cX3_save 8 = .ok (.sipush 534, 3) := dk_17 2 22 (dk_at dksX3_save_0 8 rfl rfl)
theorem dX3_save_11 : decode cX3_save 11 = .ok (.if_icmp .ge 21, 3) := dk_162 0 21 (dk_at dksX3_save_0 11 rfl rfl)
theorem dX3_save_14 : decode cX3_save 14 = .ok (.aload_n 0, 1) := dk_42 (dk_at dksX3_save_0 14 rfl rfl)
theorem dX3_save_15 : decode cX3_save 15 = .ok (.getfield 13, 3) := dk_180 0 13 (dk_at dksX3_save_0 15 rfl rfl)
theorem dX3_save_18 : decode cX3_save 18 = .ok (.iload_n 1, 1) := dk_27 (dk_at dksX3_save_0 18 rfl rfl)
theorem dX3_save_19 : decode cX3_save 19 = .ok (.aload_n 0, 1) := dk_42 (dk_at dksX3_save_0 19 rfl rfl)
theorem dX3_save_20 : decode cX3_save 20 = .ok (.getfield 7, 3) := dk_180 0 7 (dk_at dksX3_save_0 20 rfl rfl)
theorem dX3_save_23 : decode cX3_save 23 = .ok (.iload_n 1, 1) := dk_27 (dk_at dksX3_save_0 23 rfl rfl)
theorem dX3_save_24 : decode cX3_save 24 = .ok (.iaload, 1) := dk_46 (dk_at dksX3_save_1 0 rfl rfl)
theorem dX3_save_25 : decode cX3_save 25 = .ok (.iastore, 1) := dk_79 (dk_at dksX3_save_1 1 rfl rfl)
theorem dX3_save_26 : decode cX3_save 26 = .ok (.iinc 1 1, 3) := dk_132 1 1 (dk_at dksX3_save_1 2 rfl rfl)
theorem dX3_save_29 : decode cX3_save 29 = .ok (.goto (-22), 3) := dk_167 255 234 (dk_at dksX3_save_1 5 rfl rfl)
theorem dX3_save_32 : decode cX3_save 32 = .ok (.aload_n 0, 1) := dk_42 (dk_at dksX3_save_1 8 rfl rfl)
theorem dX3_save_33 : decode cX3_save 33 = .ok (.aload_n 0, 1) := dk_42 (dk_at dksX3_save_1 9 rfl rfl)
theorem dX3_save_34 : decode cX3_save 34 = .ok (.invokevirtual 280, 3) := dk_182 1 24 (dk_at dksX3_save_1 10 rfl rfl)
theorem dX3_save_37 : decode cX3_save 37 = .ok (.invokevirtual 69, 3) := dk_182 0 69 (dk_at dksX3_save_1 13 rfl rfl)
theorem dX3_save_40 : decode cX3_save 40 = .ok (.ireturn, 1) := dk_172 (dk_at dksX3_save_1 16 rfl rfl)
abbrev cX3_secrets : ByteArray := prog_27_method_94_code
def yX3_secrets : MethodName := ⟨RX3, "secrets", "()I"⟩
def dkwX3_secrets_1 : List UInt8 := [27, 172]
abbrev dktX3_secrets_1 : List UInt8 := dkwX3_secrets_1 ++ []
def dkwX3_secrets_0 : List UInt8 := [3, 60, 3, 61, 28, 7, 162, 0, 18, 27, 42, 28, 3, 182, 0, 49, 96, 60, 132, 2, 1, 167, 255, 239]
abbrev dktX3_secrets_0 : List UInt8 := dkwX3_secrets_0 ++ dktX3_secrets_1
theorem dksX3_secrets_0 : cX3_secrets.data.toList.drop 0 = dktX3_secrets_0 := by decide +kernel
theorem dksX3_secrets_1 : cX3_secrets.data.toList.drop 24 = dktX3_secrets_1 := dk_seg dksX3_secrets_0 24 rfl rfl
theorem dX3_secrets_0 : decode cX3_secrets 0 = .ok (.iconst 0, 1) := dk_3 (dk_at dksX3_secrets_0 0 rfl rfl)
theorem dX3_secrets_1 : decode cX3_secrets 1 = .ok (.istore_n 1, 1) := dk_60 (dk_at dksX3_secrets_0 1 rfl rfl)
theorem dX3_secrets_2 : decode cX3_secrets 2 = .ok (.iconst 0, 1) := dk_3 (dk_at dksX3_secrets_0 2 rfl rfl)
theorem dX3_secrets_3 : decode cX3_secrets 3 = .ok (.istore_n 2, 1) := dk_61 (dk_at dksX3_secrets_0 3 rfl rfl)
theorem dX3_secrets_4 : decode cX3_secrets 4 = .ok (.iload_n 2, 1) := dk_28 (dk_at dksX3_secrets_0 4 rfl rfl)
theorem dX3_secrets_5 : decode cX3_secrets 5 = .ok (.iconst 4, 1) := dk_7 (dk_at dksX3_secrets_0 5 rfl rfl)
theorem dX3_secrets_6 : decode cX3_secrets 6 = .ok (.if_icmp .ge 18, 3) := dk_162 0 18 (dk_at dksX3_secrets_0 6 rfl rfl)
theorem dX3_secrets_9 : decode cX3_secrets 9 = .ok (.iload_n 1, 1) := dk_27 (dk_at dksX3_secrets_0 9 rfl rfl)
theorem dX3_secrets_10 : decode cX3_secrets 10 = .ok (.aload_n 0, 1) := dk_42 (dk_at dksX3_secrets_0 10 rfl rfl)
theorem dX3_secrets_11 : decode cX3_secrets 11 = .ok (.iload_n 2, 1) := dk_28 (dk_at dksX3_secrets_0 11 rfl rfl)
theorem dX3_secrets_12 : decode cX3_secrets 12 = .ok (.iconst 0, 1) := dk_3 (dk_at dksX3_secrets_0 12 rfl rfl)
theorem dX3_secrets_13 : decode cX3_secrets 13 = .ok (.invokevirtual 49, 3) := dk_182 0 49 (dk_at dksX3_secrets_0 13 rfl rfl)
theorem dX3_secrets_16 : decode cX3_secrets 16 = .ok (.iadd, 1) := dk_96 (dk_at dksX3_secrets_0 16 rfl rfl)
theorem dX3_secrets_17 : decode cX3_secrets 17 = .ok (.istore_n 1, 1) := dk_60 (dk_at dksX3_secrets_0 17 rfl rfl)
theorem dX3_secrets_18 : decode cX3_secrets 18 = .ok (.iinc 2 1, 3) := dk_132 2 1 (dk_at dksX3_secrets_0 18 rfl rfl)
theorem dX3_secrets_21 : decode cX3_secrets 21 = .ok (.goto (-17), 3) := dk_167 255 239 (dk_at dksX3_secrets_0 21 rfl rfl)
theorem dX3_secrets_24 : decode cX3_secrets 24 = .ok (.iload_n 1, 1) := dk_27 (dk_at dksX3_secrets_1 0 rfl rfl)
theorem dX3_secrets_25 : decode cX3_secrets 25 = .ok (.ireturn, 1) := dk_172 (dk_at dksX3_secrets_1 1 rfl rfl)
abbrev cX3_restore : ByteArray := prog_27_method_96_code
def yX3_restore : MethodName := ⟨RX3, "restore", "()I"⟩
def dkwX3_restore_2 : List UInt8 := [182, 0, 69, 172]
abbrev dktX3_restore_2 : List UInt8 := dkwX3_restore_2 ++ []
def dkwX3_restore_1 : List UInt8 := [180, 0, 7, 27, 42, 180, 0, 13, 27, 46, 79, 132, 1, 1, 167, 255, 234, 42, 42, 182, 1, 24]
abbrev dktX3_restore_1 : List UInt8 := dkwX3_restore_1 ++ dktX3_restore_2
def dkwX3_restore_0 : List UInt8 := [42, 180, 1, 20, 154, 0, 9, 42, 4, 182, 0, 80, 172, 3, 60, 27, 17, 2, 22, 162, 0, 21, 42]
abbrev dktX3_restore_0 : List UInt8 := dkwX3_restore_0 ++ dktX3_restore_1
theorem dksX3_restore_0 : cX3_restore.data.toList.drop 0 = dktX3_restore_0 := by decide +kernel
theorem dksX3_restore_1 : cX3_restore.data.toList.drop 23 = dktX3_restore_1 := dk_seg dksX3_restore_0 23 rfl rfl
theorem dksX3_restore_2 : cX3_restore.data.toList.drop 45 = dktX3_restore_2 := dk_seg dksX3_restore_1 22 rfl rfl
theorem dX3_restore_0 : decode cX3_restore 0 = .ok (.aload_n 0, 1) := dk_42 (dk_at dksX3_restore_0 0 rfl rfl)
theorem dX3_restore_1 : decode cX3_restore 1 = .ok (.getfield 276, 3) := dk_180 1 20 (dk_at dksX3_restore_0 1 rfl rfl)
theorem dX3_restore_4 : decode cX3_restore 4 = .ok (.ifCond .ne 9, 3) := dk_154 0 9 (dk_at dksX3_restore_0 4 rfl rfl)
theorem dX3_restore_7 : decode cX3_restore 7 = .ok (.aload_n 0, 1) := dk_42 (dk_at dksX3_restore_0 7 rfl rfl)
theorem dX3_restore_8 : decode cX3_restore 8 = .ok (.iconst 1, 1) := dk_4 (dk_at dksX3_restore_0 8 rfl rfl)
theorem dX3_restore_9 : decode cX3_restore 9 = .ok (.invokevirtual 80, 3) := dk_182 0 80 (dk_at dksX3_restore_0 9 rfl rfl)
theorem dX3_restore_12 : decode cX3_restore 12 = .ok (.ireturn, 1) := dk_172 (dk_at dksX3_restore_0 12 rfl rfl)
theorem dX3_restore_13 : decode cX3_restore 13 = .ok (.iconst 0, 1) := dk_3 (dk_at dksX3_restore_0 13 rfl rfl)
theorem dX3_restore_14 : decode cX3_restore 14 = .ok (.istore_n 1, 1) := dk_60 (dk_at dksX3_restore_0 14 rfl rfl)
theorem dX3_restore_15 : decode cX3_restore 15 = .ok (.iload_n 1, 1) := dk_27 (dk_at dksX3_restore_0 15 rfl rfl)
theorem dX3_restore_16 : decode cX3_restore 16 = .ok (.sipush 534, 3) := dk_17 2 22 (dk_at dksX3_restore_0 16 rfl rfl)
theorem dX3_restore_19 : decode cX3_restore 19 = .ok (.if_icmp .ge 21, 3) := dk_162 0 21 (dk_at dksX3_restore_0 19 rfl rfl)
theorem dX3_restore_22 : decode cX3_restore 22 = .ok (.aload_n 0, 1) := dk_42 (dk_at dksX3_restore_0 22 rfl rfl)
theorem dX3_restore_23 : decode cX3_restore 23 = .ok (.getfield 7, 3) := dk_180 0 7 (dk_at dksX3_restore_1 0 rfl rfl)
theorem dX3_restore_26 : decode cX3_restore 26 = .ok (.iload_n 1, 1) := dk_27 (dk_at dksX3_restore_1 3 rfl rfl)
theorem dX3_restore_27 : decode cX3_restore 27 = .ok (.aload_n 0, 1) := dk_42 (dk_at dksX3_restore_1 4 rfl rfl)
theorem dX3_restore_28 : decode cX3_restore 28 = .ok (.getfield 13, 3) := dk_180 0 13 (dk_at dksX3_restore_1 5 rfl rfl)
theorem dX3_restore_31 : decode cX3_restore 31 = .ok (.iload_n 1, 1) := dk_27 (dk_at dksX3_restore_1 8 rfl rfl)
theorem dX3_restore_32 : decode cX3_restore 32 = .ok (.iaload, 1) := dk_46 (dk_at dksX3_restore_1 9 rfl rfl)
theorem dX3_restore_33 : decode cX3_restore 33 = .ok (.iastore, 1) := dk_79 (dk_at dksX3_restore_1 10 rfl rfl)
theorem dX3_restore_34 : decode cX3_restore 34 = .ok (.iinc 1 1, 3) := dk_132 1 1 (dk_at dksX3_restore_1 11 rfl rfl)
theorem dX3_restore_37 : decode cX3_restore 37 = .ok (.goto (-22), 3) := dk_167 255 234 (dk_at dksX3_restore_1 14 rfl rfl)
theorem dX3_restore_40 : decode cX3_restore 40 = .ok (.aload_n 0, 1) := dk_42 (dk_at dksX3_restore_1 17 rfl rfl)
theorem dX3_restore_41 : decode cX3_restore 41 = .ok (.aload_n 0, 1) := dk_42 (dk_at dksX3_restore_1 18 rfl rfl)
theorem dX3_restore_42 : decode cX3_restore 42 = .ok (.invokevirtual 280, 3) := dk_182 1 24 (dk_at dksX3_restore_1 19 rfl rfl)
theorem dX3_restore_45 : decode cX3_restore 45 = .ok (.invokevirtual 69, 3) := dk_182 0 69 (dk_at dksX3_restore_2 0 rfl rfl)
theorem dX3_restore_48 : decode cX3_restore 48 = .ok (.ireturn, 1) := dk_172 (dk_at dksX3_restore_2 3 rfl rfl)
theorem q90 : (Jvm.Cond.initialized "SecretVaultModel") ∈ lw_all := lw_g (lw_at lw_m1 24 rfl) rfl
theorem q877 : (Jvm.Cond.selects "SecretVaultModel" ({ cls := "java/lang/Object", name := "getClass", desc := "()Ljava/lang/Class;" } : Jvm.MethodName) ({ cls := "java/lang/Object", name := "getClass", desc := "()Ljava/lang/Class;" } : Jvm.MethodName)) ∈ lw_all := lw_g (lw_at lw_m4 91 rfl) rfl
theorem q2093 : (Jvm.Cond.instantiable "SecretVaultModel" (22 : Nat)) ∈ lw_all := lw_g (lw_at lw_m9 107 rfl) rfl
theorem q2095 : (Jvm.Cond.instanceMethod ({ cls := "SecretVaultModel", name := "<init>", desc := "()V" } : Jvm.MethodName)) ∈ lw_all := lw_g (lw_at lw_m9 109 rfl) rfl
theorem q2096 : (Jvm.Cond.code ({ cls := "SecretVaultModel", name := "<init>", desc := "()V" } : Jvm.MethodName) prog_27_method_1_code (2 : Nat) (Option.none : Option Jvm.ClassFile.FieldType)) ∈ lw_all := lw_g (lw_at lw_m9 110 rfl) rfl
theorem q2097 : (Jvm.Cond.methodLink "SecretVaultModel" (1 : Nat) ({ cls := "java/lang/Object", name := "<init>", desc := "()V" } : Jvm.MethodName)) ∈ lw_all := lw_g (lw_at lw_m9 111 rfl) rfl
theorem q2098 : (Jvm.Cond.fieldLink "SecretVaultModel" (42 : Nat) "SecretVaultModel" "thrown" "I") ∈ lw_all := lw_g (lw_at lw_m9 112 rfl) rfl
theorem q2099 : (Jvm.Cond.fieldLink "SecretVaultModel" (7 : Nat) "SecretVaultModel" "g" "[I") ∈ lw_all := lw_g (lw_at lw_m9 113 rfl) rfl
theorem q2100 : (Jvm.Cond.fieldLink "SecretVaultModel" (13 : Nat) "SecretVaultModel" "saved" "[I") ∈ lw_all := lw_g (lw_at lw_m9 114 rfl) rfl
theorem q2101 : (Jvm.Cond.fieldLink "SecretVaultModel" (276 : Nat) "SecretVaultModel" "hasSaved" "Z") ∈ lw_all := lw_g (lw_at lw_m9 115 rfl) rfl
theorem q2102 : (Jvm.Cond.fieldLink "SecretVaultModel" (16 : Nat) "SecretVaultModel" "coefficients" "[I") ∈ lw_all := lw_g (lw_at lw_m9 116 rfl) rfl
theorem q2103 : (Jvm.Cond.fieldLink "SecretVaultModel" (19 : Nat) "SecretVaultModel" "nodes" "[I") ∈ lw_all := lw_g (lw_at lw_m9 117 rfl) rfl
theorem q2104 : (Jvm.Cond.fieldLink "SecretVaultModel" (127 : Nat) "SecretVaultModel" "nodeMany" "I") ∈ lw_all := lw_g (lw_at lw_m9 118 rfl) rfl
theorem q2105 : (Jvm.Cond.fieldLink "SecretVaultModel" (22 : Nat) "SecretVaultModel" "codes" "[I") ∈ lw_all := lw_g (lw_at lw_m9 119 rfl) rfl
theorem q2106 : (Jvm.Cond.fieldLink "SecretVaultModel" (25 : Nat) "SecretVaultModel" "details" "[I") ∈ lw_all := lw_g (lw_at lw_m9 120 rfl) rfl
theorem q2107 : (Jvm.Cond.fieldLink "SecretVaultModel" (153 : Nat) "SecretVaultModel" "levelMany" "I") ∈ lw_all := lw_g (lw_at lw_m9 121 rfl) rfl
theorem q2108 : (Jvm.Cond.fieldLink "SecretVaultModel" (28 : Nat) "SecretVaultModel" "given" "[I") ∈ lw_all := lw_g (lw_at lw_m9 122 rfl) rfl
theorem q2109 : (Jvm.Cond.fieldLink "SecretVaultModel" (31 : Nat) "SecretVaultModel" "paper" "[C") ∈ lw_all := lw_g (lw_at lw_m9 123 rfl) rfl
theorem q2110 : (Jvm.Cond.fieldLink "SecretVaultModel" (186 : Nat) "SecretVaultModel" "papered" "I") ∈ lw_all := lw_g (lw_at lw_m9 124 rfl) rfl
theorem q2111 : (Jvm.Cond.fieldLink "SecretVaultModel" (35 : Nat) "SecretVaultModel" "tape" "[C") ∈ lw_all := lw_g (lw_at lw_m9 125 rfl) rfl
theorem q2112 : (Jvm.Cond.fieldLink "SecretVaultModel" (201 : Nat) "SecretVaultModel" "taped" "I") ∈ lw_all := lw_g (lw_at lw_m9 126 rfl) rfl
theorem q2113 : (Jvm.Cond.fieldLink "SecretVaultModel" (38 : Nat) "SecretVaultModel" "wrongAt" "I") ∈ lw_all := lw_g (lw_at lw_m9 127 rfl) rfl
theorem q2114 : (Jvm.Cond.fieldLink "SecretVaultModel" (204 : Nat) "SecretVaultModel" "at" "I") ∈ lw_all := lw_g (lw_at lw_m9 128 rfl) rfl
theorem q2115 : (Jvm.Cond.fieldLink "SecretVaultModel" (210 : Nat) "SecretVaultModel" "value" "I") ∈ lw_all := lw_g (lw_at lw_m9 129 rfl) rfl
theorem q2116 : (Jvm.Cond.fieldLink "SecretVaultModel" (216 : Nat) "SecretVaultModel" "readPlace" "I") ∈ lw_all := lw_g (lw_at lw_m9 130 rfl) rfl
theorem q2117 : (Jvm.Cond.fieldLink "SecretVaultModel" (222 : Nat) "SecretVaultModel" "readValue" "I") ∈ lw_all := lw_g (lw_at lw_m9 131 rfl) rfl
theorem q2118 : (Jvm.Cond.fieldLink "SecretVaultModel" (225 : Nat) "SecretVaultModel" "readEpoch" "I") ∈ lw_all := lw_g (lw_at lw_m9 132 rfl) rfl
theorem q2119 : (Jvm.Cond.lays "SecretVaultModel" "SecretVaultModel" "thrown" "I") ∈ lw_all := lw_g (lw_at lw_m9 133 rfl) rfl
theorem q2120 : (Jvm.Cond.soleField "SecretVaultModel" "thrown") ∈ lw_all := lw_g (lw_at lw_m9 134 rfl) rfl
theorem q2121 : (Jvm.Cond.laysFinal "SecretVaultModel" "SecretVaultModel" "g" "[I") ∈ lw_all := lw_g (lw_at lw_m9 135 rfl) rfl
theorem q2122 : (Jvm.Cond.soleField "SecretVaultModel" "g") ∈ lw_all := lw_g (lw_at lw_m9 136 rfl) rfl
theorem q2123 : (Jvm.Cond.laysFinal "SecretVaultModel" "SecretVaultModel" "saved" "[I") ∈ lw_all := lw_g (lw_at lw_m9 137 rfl) rfl
theorem q2124 : (Jvm.Cond.soleField "SecretVaultModel" "saved") ∈ lw_all := lw_g (lw_at lw_m9 138 rfl) rfl
theorem q2125 : (Jvm.Cond.lays "SecretVaultModel" "SecretVaultModel" "hasSaved" "Z") ∈ lw_all := lw_g (lw_at lw_m9 139 rfl) rfl
theorem q2126 : (Jvm.Cond.soleField "SecretVaultModel" "hasSaved") ∈ lw_all := lw_g (lw_at lw_m9 140 rfl) rfl
theorem q2127 : (Jvm.Cond.laysFinal "SecretVaultModel" "SecretVaultModel" "coefficients" "[I") ∈ lw_all := lw_g (lw_at lw_m9 141 rfl) rfl
theorem q2128 : (Jvm.Cond.soleField "SecretVaultModel" "coefficients") ∈ lw_all := lw_g (lw_at lw_m9 142 rfl) rfl
theorem q2129 : (Jvm.Cond.laysFinal "SecretVaultModel" "SecretVaultModel" "nodes" "[I") ∈ lw_all := lw_g (lw_at lw_m9 143 rfl) rfl
theorem q2130 : (Jvm.Cond.soleField "SecretVaultModel" "nodes") ∈ lw_all := lw_g (lw_at lw_m9 144 rfl) rfl
theorem q2131 : (Jvm.Cond.lays "SecretVaultModel" "SecretVaultModel" "nodeMany" "I") ∈ lw_all := lw_g (lw_at lw_m9 145 rfl) rfl
theorem q2132 : (Jvm.Cond.soleField "SecretVaultModel" "nodeMany") ∈ lw_all := lw_g (lw_at lw_m9 146 rfl) rfl
theorem q2133 : (Jvm.Cond.lays "SecretVaultModel" "SecretVaultModel" "isDeep" "Z") ∈ lw_all := lw_g (lw_at lw_m9 147 rfl) rfl
theorem q2134 : (Jvm.Cond.soleField "SecretVaultModel" "isDeep") ∈ lw_all := lw_g (lw_at lw_m9 148 rfl) rfl
theorem q2135 : (Jvm.Cond.laysFinal "SecretVaultModel" "SecretVaultModel" "codes" "[I") ∈ lw_all := lw_g (lw_at lw_m9 149 rfl) rfl
theorem q2136 : (Jvm.Cond.soleField "SecretVaultModel" "codes") ∈ lw_all := lw_g (lw_at lw_m9 150 rfl) rfl
theorem q2137 : (Jvm.Cond.laysFinal "SecretVaultModel" "SecretVaultModel" "details" "[I") ∈ lw_all := lw_g (lw_at lw_m9 151 rfl) rfl
theorem q2138 : (Jvm.Cond.soleField "SecretVaultModel" "details") ∈ lw_all := lw_g (lw_at lw_m9 152 rfl) rfl
theorem q2139 : (Jvm.Cond.lays "SecretVaultModel" "SecretVaultModel" "levelMany" "I") ∈ lw_all := lw_g (lw_at lw_m9 153 rfl) rfl
theorem q2140 : (Jvm.Cond.soleField "SecretVaultModel" "levelMany") ∈ lw_all := lw_g (lw_at lw_m9 154 rfl) rfl
theorem q2141 : (Jvm.Cond.laysFinal "SecretVaultModel" "SecretVaultModel" "given" "[I") ∈ lw_all := lw_g (lw_at lw_m9 155 rfl) rfl
theorem q2142 : (Jvm.Cond.soleField "SecretVaultModel" "given") ∈ lw_all := lw_g (lw_at lw_m9 156 rfl) rfl
theorem q2143 : (Jvm.Cond.laysFinal "SecretVaultModel" "SecretVaultModel" "paper" "[C") ∈ lw_all := lw_g (lw_at lw_m9 157 rfl) rfl
theorem q2144 : (Jvm.Cond.soleField "SecretVaultModel" "paper") ∈ lw_all := lw_g (lw_at lw_m9 158 rfl) rfl
theorem q2145 : (Jvm.Cond.lays "SecretVaultModel" "SecretVaultModel" "papered" "I") ∈ lw_all := lw_g (lw_at lw_m9 159 rfl) rfl
theorem q2146 : (Jvm.Cond.soleField "SecretVaultModel" "papered") ∈ lw_all := lw_g (lw_at lw_m9 160 rfl) rfl
theorem q2147 : (Jvm.Cond.laysFinal "SecretVaultModel" "SecretVaultModel" "tape" "[C") ∈ lw_all := lw_g (lw_at lw_m9 161 rfl) rfl
theorem q2148 : (Jvm.Cond.soleField "SecretVaultModel" "tape") ∈ lw_all := lw_g (lw_at lw_m9 162 rfl) rfl
theorem q2149 : (Jvm.Cond.lays "SecretVaultModel" "SecretVaultModel" "taped" "I") ∈ lw_all := lw_g (lw_at lw_m9 163 rfl) rfl
theorem q2150 : (Jvm.Cond.soleField "SecretVaultModel" "taped") ∈ lw_all := lw_g (lw_at lw_m9 164 rfl) rfl
theorem q2151 : (Jvm.Cond.lays "SecretVaultModel" "SecretVaultModel" "wrongAt" "I") ∈ lw_all := lw_g (lw_at lw_m9 165 rfl) rfl
theorem q2152 : (Jvm.Cond.soleField "SecretVaultModel" "wrongAt") ∈ lw_all := lw_g (lw_at lw_m9 166 rfl) rfl
theorem q2153 : (Jvm.Cond.lays "SecretVaultModel" "SecretVaultModel" "at" "I") ∈ lw_all := lw_g (lw_at lw_m9 167 rfl) rfl
theorem q2154 : (Jvm.Cond.soleField "SecretVaultModel" "at") ∈ lw_all := lw_g (lw_at lw_m9 168 rfl) rfl
theorem q2155 : (Jvm.Cond.lays "SecretVaultModel" "SecretVaultModel" "value" "I") ∈ lw_all := lw_g (lw_at lw_m9 169 rfl) rfl
theorem q2156 : (Jvm.Cond.soleField "SecretVaultModel" "value") ∈ lw_all := lw_g (lw_at lw_m9 170 rfl) rfl
theorem q2157 : (Jvm.Cond.lays "SecretVaultModel" "SecretVaultModel" "readPlace" "I") ∈ lw_all := lw_g (lw_at lw_m9 171 rfl) rfl
theorem q2158 : (Jvm.Cond.soleField "SecretVaultModel" "readPlace") ∈ lw_all := lw_g (lw_at lw_m9 172 rfl) rfl
theorem q2159 : (Jvm.Cond.lays "SecretVaultModel" "SecretVaultModel" "readValue" "I") ∈ lw_all := lw_g (lw_at lw_m9 173 rfl) rfl
theorem q2160 : (Jvm.Cond.soleField "SecretVaultModel" "readValue") ∈ lw_all := lw_g (lw_at lw_m9 174 rfl) rfl
theorem q2161 : (Jvm.Cond.lays "SecretVaultModel" "SecretVaultModel" "readEpoch" "I") ∈ lw_all := lw_g (lw_at lw_m9 175 rfl) rfl
theorem q2162 : (Jvm.Cond.soleField "SecretVaultModel" "readEpoch") ∈ lw_all := lw_g (lw_at lw_m9 176 rfl) rfl
theorem q2163 : (Jvm.Cond.superclass "SecretVaultModel" "java/lang/Object") ∈ lw_all := lw_g (lw_at lw_m9 177 rfl) rfl
theorem q2166 : (Jvm.Cond.instanceMethod ({ cls := "SecretVaultModel", name := "thrown", desc := "()I" } : Jvm.MethodName)) ∈ lw_all := lw_g (lw_at lw_m9 180 rfl) rfl
theorem q2167 : (Jvm.Cond.selects "SecretVaultModel" ({ cls := "SecretVaultModel", name := "thrown", desc := "()I" } : Jvm.MethodName) ({ cls := "SecretVaultModel", name := "thrown", desc := "()I" } : Jvm.MethodName)) ∈ lw_all := lw_g (lw_at lw_m9 181 rfl) rfl
theorem q2168 : (Jvm.Cond.code ({ cls := "SecretVaultModel", name := "thrown", desc := "()I" } : Jvm.MethodName) prog_27_method_2_code (1 : Nat) (Option.some Jvm.ClassFile.FieldType.int)) ∈ lw_all := lw_g (lw_at lw_m9 182 rfl) rfl
theorem q2170 : (Jvm.Cond.instanceMethod ({ cls := "SecretVaultModel", name := "seed", desc := "(I)I" } : Jvm.MethodName)) ∈ lw_all := lw_g (lw_at lw_m9 184 rfl) rfl
theorem q2171 : (Jvm.Cond.selects "SecretVaultModel" ({ cls := "SecretVaultModel", name := "seed", desc := "(I)I" } : Jvm.MethodName) ({ cls := "SecretVaultModel", name := "seed", desc := "(I)I" } : Jvm.MethodName)) ∈ lw_all := lw_g (lw_at lw_m9 185 rfl) rfl
theorem q2172 : (Jvm.Cond.code ({ cls := "SecretVaultModel", name := "seed", desc := "(I)I" } : Jvm.MethodName) prog_27_method_23_code (3 : Nat) (Option.some Jvm.ClassFile.FieldType.int)) ∈ lw_all := lw_g (lw_at lw_m9 186 rfl) rfl
theorem q2173 : (Jvm.Cond.methodLink "SecretVaultModel" (69 : Nat) ({ cls := "SecretVaultModel", name := "done", desc := "(I)I" } : Jvm.MethodName)) ∈ lw_all := lw_g (lw_at lw_m9 187 rfl) rfl
theorem q2174 : (Jvm.Cond.privateMethod ({ cls := "SecretVaultModel", name := "done", desc := "(I)I" } : Jvm.MethodName)) ∈ lw_tbl := lw_at lw_m9 188 rfl
theorem q2175 : (Jvm.Cond.instanceMethod ({ cls := "SecretVaultModel", name := "done", desc := "(I)I" } : Jvm.MethodName)) ∈ lw_all := lw_g (lw_at lw_m9 189 rfl) rfl
theorem q2176 : (Jvm.Cond.code ({ cls := "SecretVaultModel", name := "done", desc := "(I)I" } : Jvm.MethodName) prog_27_method_5_code (2 : Nat) (Option.some Jvm.ClassFile.FieldType.int)) ∈ lw_all := lw_g (lw_at lw_m9 190 rfl) rfl
theorem q2178 : (Jvm.Cond.instanceMethod ({ cls := "SecretVaultModel", name := "draw", desc := "()I" } : Jvm.MethodName)) ∈ lw_all := lw_g (lw_at lw_m9 192 rfl) rfl
theorem q2179 : (Jvm.Cond.selects "SecretVaultModel" ({ cls := "SecretVaultModel", name := "draw", desc := "()I" } : Jvm.MethodName) ({ cls := "SecretVaultModel", name := "draw", desc := "()I" } : Jvm.MethodName)) ∈ lw_all := lw_g (lw_at lw_m9 193 rfl) rfl
theorem q2180 : (Jvm.Cond.code ({ cls := "SecretVaultModel", name := "draw", desc := "()I" } : Jvm.MethodName) prog_27_method_24_code (1 : Nat) (Option.some Jvm.ClassFile.FieldType.int)) ∈ lw_all := lw_g (lw_at lw_m9 194 rfl) rfl
theorem q2181 : (Jvm.Cond.methodLink "SecretVaultModel" (72 : Nat) ({ cls := "SecretVaultModel", name := "drawn", desc := "()I" } : Jvm.MethodName)) ∈ lw_all := lw_g (lw_at lw_m9 195 rfl) rfl
theorem q2182 : (Jvm.Cond.privateMethod ({ cls := "SecretVaultModel", name := "drawn", desc := "()I" } : Jvm.MethodName)) ∈ lw_tbl := lw_at lw_m9 196 rfl
theorem q2183 : (Jvm.Cond.instanceMethod ({ cls := "SecretVaultModel", name := "drawn", desc := "()I" } : Jvm.MethodName)) ∈ lw_all := lw_g (lw_at lw_m9 197 rfl) rfl
theorem q2184 : (Jvm.Cond.code ({ cls := "SecretVaultModel", name := "drawn", desc := "()I" } : Jvm.MethodName) prog_27_method_22_code (1 : Nat) (Option.some Jvm.ClassFile.FieldType.int)) ∈ lw_all := lw_g (lw_at lw_m9 198 rfl) rfl
theorem q2185 : (Jvm.Cond.constant "SecretVaultModel" (68 : Nat) (1103515245 : Int32)) ∈ lw_all := lw_g (lw_at lw_m9 199 rfl) rfl
theorem q2187 : (Jvm.Cond.instanceMethod ({ cls := "SecretVaultModel", name := "setWeight", desc := "(II)I" } : Jvm.MethodName)) ∈ lw_all := lw_g (lw_at lw_m9 201 rfl) rfl
theorem q2188 : (Jvm.Cond.selects "SecretVaultModel" ({ cls := "SecretVaultModel", name := "setWeight", desc := "(II)I" } : Jvm.MethodName) ({ cls := "SecretVaultModel", name := "setWeight", desc := "(II)I" } : Jvm.MethodName)) ∈ lw_all := lw_g (lw_at lw_m9 202 rfl) rfl
theorem q2189 : (Jvm.Cond.code ({ cls := "SecretVaultModel", name := "setWeight", desc := "(II)I" } : Jvm.MethodName) prog_27_method_25_code (4 : Nat) (Option.some Jvm.ClassFile.FieldType.int)) ∈ lw_all := lw_g (lw_at lw_m9 203 rfl) rfl
theorem q2190 : (Jvm.Cond.methodLink "SecretVaultModel" (76 : Nat) ({ cls := "SecretVaultModel", name := "isMember", desc := "(I)Z" } : Jvm.MethodName)) ∈ lw_all := lw_g (lw_at lw_m9 204 rfl) rfl
theorem q2191 : (Jvm.Cond.static ({ cls := "SecretVaultModel", name := "isMember", desc := "(I)Z" } : Jvm.MethodName)) ∈ lw_all := lw_g (lw_at lw_m9 205 rfl) rfl
theorem q2192 : (Jvm.Cond.code ({ cls := "SecretVaultModel", name := "isMember", desc := "(I)Z" } : Jvm.MethodName) prog_27_method_6_code (1 : Nat) (Option.some Jvm.ClassFile.FieldType.boolean)) ∈ lw_all := lw_g (lw_at lw_m9 206 rfl) rfl
theorem q2193 : (Jvm.Cond.methodLink "SecretVaultModel" (45 : Nat) ({ cls := "SecretVaultModel", name := "in", desc := "(III)Z" } : Jvm.MethodName)) ∈ lw_all := lw_g (lw_at lw_m9 207 rfl) rfl
theorem q2194 : (Jvm.Cond.static ({ cls := "SecretVaultModel", name := "in", desc := "(III)Z" } : Jvm.MethodName)) ∈ lw_all := lw_g (lw_at lw_m9 208 rfl) rfl
theorem q2195 : (Jvm.Cond.code ({ cls := "SecretVaultModel", name := "in", desc := "(III)Z" } : Jvm.MethodName) prog_27_method_3_code (3 : Nat) (Option.some Jvm.ClassFile.FieldType.boolean)) ∈ lw_all := lw_g (lw_at lw_m9 209 rfl) rfl
theorem q2196 : (Jvm.Cond.methodLink "SecretVaultModel" (80 : Nat) ({ cls := "SecretVaultModel", name := "fails", desc := "(I)I" } : Jvm.MethodName)) ∈ lw_all := lw_g (lw_at lw_m9 210 rfl) rfl
theorem q2197 : (Jvm.Cond.privateMethod ({ cls := "SecretVaultModel", name := "fails", desc := "(I)I" } : Jvm.MethodName)) ∈ lw_tbl := lw_at lw_m9 211 rfl
theorem q2198 : (Jvm.Cond.instanceMethod ({ cls := "SecretVaultModel", name := "fails", desc := "(I)I" } : Jvm.MethodName)) ∈ lw_all := lw_g (lw_at lw_m9 212 rfl) rfl
theorem q2199 : (Jvm.Cond.code ({ cls := "SecretVaultModel", name := "fails", desc := "(I)I" } : Jvm.MethodName) prog_27_method_4_code (2 : Nat) (Option.some Jvm.ClassFile.FieldType.int)) ∈ lw_all := lw_g (lw_at lw_m9 213 rfl) rfl
theorem q2201 : (Jvm.Cond.instanceMethod ({ cls := "SecretVaultModel", name := "setPresent", desc := "(IZ)Z" } : Jvm.MethodName)) ∈ lw_all := lw_g (lw_at lw_m9 215 rfl) rfl
theorem q2202 : (Jvm.Cond.selects "SecretVaultModel" ({ cls := "SecretVaultModel", name := "setPresent", desc := "(IZ)Z" } : Jvm.MethodName) ({ cls := "SecretVaultModel", name := "setPresent", desc := "(IZ)Z" } : Jvm.MethodName)) ∈ lw_all := lw_g (lw_at lw_m9 216 rfl) rfl
theorem q2203 : (Jvm.Cond.code ({ cls := "SecretVaultModel", name := "setPresent", desc := "(IZ)Z" } : Jvm.MethodName) prog_27_method_26_code (4 : Nat) (Option.some Jvm.ClassFile.FieldType.boolean)) ∈ lw_all := lw_g (lw_at lw_m9 217 rfl) rfl
theorem q2204 : (Jvm.Cond.methodLink "SecretVaultModel" (83 : Nat) ({ cls := "SecretVaultModel", name := "isPresent", desc := "(I)Z" } : Jvm.MethodName)) ∈ lw_all := lw_g (lw_at lw_m9 218 rfl) rfl
theorem q2205 : (Jvm.Cond.privateMethod ({ cls := "SecretVaultModel", name := "isPresent", desc := "(I)Z" } : Jvm.MethodName)) ∈ lw_tbl := lw_at lw_m9 219 rfl
theorem q2206 : (Jvm.Cond.instanceMethod ({ cls := "SecretVaultModel", name := "isPresent", desc := "(I)Z" } : Jvm.MethodName)) ∈ lw_all := lw_g (lw_at lw_m9 220 rfl) rfl
theorem q2207 : (Jvm.Cond.code ({ cls := "SecretVaultModel", name := "isPresent", desc := "(I)Z" } : Jvm.MethodName) prog_27_method_18_code (2 : Nat) (Option.some Jvm.ClassFile.FieldType.boolean)) ∈ lw_all := lw_g (lw_at lw_m9 221 rfl) rfl
theorem q2209 : (Jvm.Cond.instanceMethod ({ cls := "SecretVaultModel", name := "member", desc := "(II)I" } : Jvm.MethodName)) ∈ lw_all := lw_g (lw_at lw_m9 223 rfl) rfl
theorem q2210 : (Jvm.Cond.selects "SecretVaultModel" ({ cls := "SecretVaultModel", name := "member", desc := "(II)I" } : Jvm.MethodName) ({ cls := "SecretVaultModel", name := "member", desc := "(II)I" } : Jvm.MethodName)) ∈ lw_all := lw_g (lw_at lw_m9 224 rfl) rfl
theorem q2211 : (Jvm.Cond.code ({ cls := "SecretVaultModel", name := "member", desc := "(II)I" } : Jvm.MethodName) prog_27_method_27_code (6 : Nat) (Option.some Jvm.ClassFile.FieldType.int)) ∈ lw_all := lw_g (lw_at lw_m9 225 rfl) rfl
theorem q2212 : (Jvm.Cond.methodLink "SecretVaultModel" (86 : Nat) ({ cls := "SecretVaultModel", name := "hasShare", desc := "(II)Z" } : Jvm.MethodName)) ∈ lw_all := lw_g (lw_at lw_m9 226 rfl) rfl
theorem q2213 : (Jvm.Cond.privateMethod ({ cls := "SecretVaultModel", name := "hasShare", desc := "(II)Z" } : Jvm.MethodName)) ∈ lw_tbl := lw_at lw_m9 227 rfl
theorem q2214 : (Jvm.Cond.instanceMethod ({ cls := "SecretVaultModel", name := "hasShare", desc := "(II)Z" } : Jvm.MethodName)) ∈ lw_all := lw_g (lw_at lw_m9 228 rfl) rfl
theorem q2215 : (Jvm.Cond.code ({ cls := "SecretVaultModel", name := "hasShare", desc := "(II)Z" } : Jvm.MethodName) prog_27_method_15_code (3 : Nat) (Option.some Jvm.ClassFile.FieldType.boolean)) ∈ lw_all := lw_g (lw_at lw_m9 229 rfl) rfl
theorem q2216 : (Jvm.Cond.methodLink "SecretVaultModel" (57 : Nat) ({ cls := "SecretVaultModel", name := "shareOf", desc := "(III)I" } : Jvm.MethodName)) ∈ lw_all := lw_g (lw_at lw_m9 230 rfl) rfl
theorem q2217 : (Jvm.Cond.privateMethod ({ cls := "SecretVaultModel", name := "shareOf", desc := "(III)I" } : Jvm.MethodName)) ∈ lw_tbl := lw_at lw_m9 231 rfl
theorem q2218 : (Jvm.Cond.instanceMethod ({ cls := "SecretVaultModel", name := "shareOf", desc := "(III)I" } : Jvm.MethodName)) ∈ lw_all := lw_g (lw_at lw_m9 232 rfl) rfl
theorem q2219 : (Jvm.Cond.code ({ cls := "SecretVaultModel", name := "shareOf", desc := "(III)I" } : Jvm.MethodName) prog_27_method_12_code (4 : Nat) (Option.some Jvm.ClassFile.FieldType.int)) ∈ lw_all := lw_g (lw_at lw_m9 233 rfl) rfl
theorem q2220 : (Jvm.Cond.methodLink "SecretVaultModel" (49 : Nat) ({ cls := "SecretVaultModel", name := "of", desc := "(II)I" } : Jvm.MethodName)) ∈ lw_all := lw_g (lw_at lw_m9 234 rfl) rfl
theorem q2221 : (Jvm.Cond.privateMethod ({ cls := "SecretVaultModel", name := "of", desc := "(II)I" } : Jvm.MethodName)) ∈ lw_tbl := lw_at lw_m9 235 rfl
theorem q2222 : (Jvm.Cond.instanceMethod ({ cls := "SecretVaultModel", name := "of", desc := "(II)I" } : Jvm.MethodName)) ∈ lw_all := lw_g (lw_at lw_m9 236 rfl) rfl
theorem q2223 : (Jvm.Cond.code ({ cls := "SecretVaultModel", name := "of", desc := "(II)I" } : Jvm.MethodName) prog_27_method_10_code (3 : Nat) (Option.some Jvm.ClassFile.FieldType.int)) ∈ lw_all := lw_g (lw_at lw_m9 237 rfl) rfl
theorem q2224 : (Jvm.Cond.methodLink "SecretVaultModel" (90 : Nat) ({ cls := "SecretVaultModel", name := "stateOf", desc := "(II)I" } : Jvm.MethodName)) ∈ lw_all := lw_g (lw_at lw_m9 238 rfl) rfl
theorem q2225 : (Jvm.Cond.privateMethod ({ cls := "SecretVaultModel", name := "stateOf", desc := "(II)I" } : Jvm.MethodName)) ∈ lw_tbl := lw_at lw_m9 239 rfl
theorem q2226 : (Jvm.Cond.instanceMethod ({ cls := "SecretVaultModel", name := "stateOf", desc := "(II)I" } : Jvm.MethodName)) ∈ lw_all := lw_g (lw_at lw_m10 0 rfl) rfl
theorem q2227 : (Jvm.Cond.code ({ cls := "SecretVaultModel", name := "stateOf", desc := "(II)I" } : Jvm.MethodName) prog_27_method_28_code (6 : Nat) (Option.some Jvm.ClassFile.FieldType.int)) ∈ lw_all := lw_g (lw_at lw_m10 1 rfl) rfl
theorem q2228 : (Jvm.Cond.methodLink "SecretVaultModel" (65 : Nat) ({ cls := "SecretVaultModel", name := "power", desc := "(III)I" } : Jvm.MethodName)) ∈ lw_all := lw_g (lw_at lw_m10 2 rfl) rfl
theorem q2229 : (Jvm.Cond.static ({ cls := "SecretVaultModel", name := "power", desc := "(III)I" } : Jvm.MethodName)) ∈ lw_all := lw_g (lw_at lw_m10 3 rfl) rfl
theorem q2230 : (Jvm.Cond.code ({ cls := "SecretVaultModel", name := "power", desc := "(III)I" } : Jvm.MethodName) prog_27_method_20_code (6 : Nat) (Option.some Jvm.ClassFile.FieldType.int)) ∈ lw_all := lw_g (lw_at lw_m10 4 rfl) rfl
theorem q2232 : (Jvm.Cond.instanceMethod ({ cls := "SecretVaultModel", name := "put", desc := "(III)I" } : Jvm.MethodName)) ∈ lw_all := lw_g (lw_at lw_m10 6 rfl) rfl
theorem q2233 : (Jvm.Cond.selects "SecretVaultModel" ({ cls := "SecretVaultModel", name := "put", desc := "(III)I" } : Jvm.MethodName) ({ cls := "SecretVaultModel", name := "put", desc := "(III)I" } : Jvm.MethodName)) ∈ lw_all := lw_g (lw_at lw_m10 7 rfl) rfl
theorem q2234 : (Jvm.Cond.code ({ cls := "SecretVaultModel", name := "put", desc := "(III)I" } : Jvm.MethodName) prog_27_method_33_code (5 : Nat) (Option.some Jvm.ClassFile.FieldType.int)) ∈ lw_all := lw_g (lw_at lw_m10 8 rfl) rfl
theorem q2235 : (Jvm.Cond.methodLink "SecretVaultModel" (107 : Nat) ({ cls := "SecretVaultModel", name := "isSlot", desc := "(I)Z" } : Jvm.MethodName)) ∈ lw_all := lw_g (lw_at lw_m10 9 rfl) rfl
theorem q2236 : (Jvm.Cond.static ({ cls := "SecretVaultModel", name := "isSlot", desc := "(I)Z" } : Jvm.MethodName)) ∈ lw_all := lw_g (lw_at lw_m10 10 rfl) rfl
theorem q2237 : (Jvm.Cond.code ({ cls := "SecretVaultModel", name := "isSlot", desc := "(I)Z" } : Jvm.MethodName) prog_27_method_7_code (1 : Nat) (Option.some Jvm.ClassFile.FieldType.boolean)) ∈ lw_all := lw_g (lw_at lw_m10 11 rfl) rfl
theorem q2238 : (Jvm.Cond.methodLink "SecretVaultModel" (110 : Nat) ({ cls := "SecretVaultModel", name := "usedPlaces", desc := "()I" } : Jvm.MethodName)) ∈ lw_all := lw_g (lw_at lw_m10 12 rfl) rfl
theorem q2239 : (Jvm.Cond.privateMethod ({ cls := "SecretVaultModel", name := "usedPlaces", desc := "()I" } : Jvm.MethodName)) ∈ lw_tbl := lw_at lw_m10 13 rfl
theorem q2240 : (Jvm.Cond.instanceMethod ({ cls := "SecretVaultModel", name := "usedPlaces", desc := "()I" } : Jvm.MethodName)) ∈ lw_all := lw_g (lw_at lw_m10 14 rfl) rfl
theorem q2241 : (Jvm.Cond.code ({ cls := "SecretVaultModel", name := "usedPlaces", desc := "()I" } : Jvm.MethodName) prog_27_method_31_code (3 : Nat) (Option.some Jvm.ClassFile.FieldType.int)) ∈ lw_all := lw_g (lw_at lw_m10 15 rfl) rfl
theorem q2242 : (Jvm.Cond.methodLink "SecretVaultModel" (53 : Nat) ({ cls := "SecretVaultModel", name := "sets", desc := "(III)V" } : Jvm.MethodName)) ∈ lw_all := lw_g (lw_at lw_m10 16 rfl) rfl
theorem q2243 : (Jvm.Cond.privateMethod ({ cls := "SecretVaultModel", name := "sets", desc := "(III)V" } : Jvm.MethodName)) ∈ lw_tbl := lw_at lw_m10 17 rfl
theorem q2244 : (Jvm.Cond.instanceMethod ({ cls := "SecretVaultModel", name := "sets", desc := "(III)V" } : Jvm.MethodName)) ∈ lw_all := lw_g (lw_at lw_m10 18 rfl) rfl
theorem q2245 : (Jvm.Cond.code ({ cls := "SecretVaultModel", name := "sets", desc := "(III)V" } : Jvm.MethodName) prog_27_method_11_code (4 : Nat) (Option.none : Option Jvm.ClassFile.FieldType)) ∈ lw_all := lw_g (lw_at lw_m10 19 rfl) rfl
theorem q2246 : (Jvm.Cond.methodLink "SecretVaultModel" (113 : Nat) ({ cls := "SecretVaultModel", name := "deals", desc := "(IIII)I" } : Jvm.MethodName)) ∈ lw_all := lw_g (lw_at lw_m10 20 rfl) rfl
theorem q2247 : (Jvm.Cond.privateMethod ({ cls := "SecretVaultModel", name := "deals", desc := "(IIII)I" } : Jvm.MethodName)) ∈ lw_tbl := lw_at lw_m10 21 rfl
theorem q2248 : (Jvm.Cond.instanceMethod ({ cls := "SecretVaultModel", name := "deals", desc := "(IIII)I" } : Jvm.MethodName)) ∈ lw_all := lw_g (lw_at lw_m10 22 rfl) rfl
theorem q2249 : (Jvm.Cond.code ({ cls := "SecretVaultModel", name := "deals", desc := "(IIII)I" } : Jvm.MethodName) prog_27_method_32_code (7 : Nat) (Option.some Jvm.ClassFile.FieldType.int)) ∈ lw_all := lw_g (lw_at lw_m10 23 rfl) rfl
theorem q2250 : (Jvm.Cond.methodLink "SecretVaultModel" (93 : Nat) ({ cls := "SecretVaultModel", name := "removes", desc := "(II)V" } : Jvm.MethodName)) ∈ lw_all := lw_g (lw_at lw_m10 24 rfl) rfl
theorem q2251 : (Jvm.Cond.privateMethod ({ cls := "SecretVaultModel", name := "removes", desc := "(II)V" } : Jvm.MethodName)) ∈ lw_tbl := lw_at lw_m10 25 rfl
theorem q2252 : (Jvm.Cond.instanceMethod ({ cls := "SecretVaultModel", name := "removes", desc := "(II)V" } : Jvm.MethodName)) ∈ lw_all := lw_g (lw_at lw_m10 26 rfl) rfl
theorem q2253 : (Jvm.Cond.code ({ cls := "SecretVaultModel", name := "removes", desc := "(II)V" } : Jvm.MethodName) prog_27_method_14_code (4 : Nat) (Option.none : Option Jvm.ClassFile.FieldType)) ∈ lw_all := lw_g (lw_at lw_m10 27 rfl) rfl
theorem q2254 : (Jvm.Cond.methodLink "SecretVaultModel" (61 : Nat) ({ cls := "SecretVaultModel", name := "owner", desc := "(I)I" } : Jvm.MethodName)) ∈ lw_all := lw_g (lw_at lw_m10 28 rfl) rfl
theorem q2255 : (Jvm.Cond.static ({ cls := "SecretVaultModel", name := "owner", desc := "(I)I" } : Jvm.MethodName)) ∈ lw_all := lw_g (lw_at lw_m10 29 rfl) rfl
theorem q2256 : (Jvm.Cond.code ({ cls := "SecretVaultModel", name := "owner", desc := "(I)I" } : Jvm.MethodName) prog_27_method_16_code (1 : Nat) (Option.some Jvm.ClassFile.FieldType.int)) ∈ lw_all := lw_g (lw_at lw_m10 30 rfl) rfl
theorem q2257 : (Jvm.Cond.methodLink "SecretVaultModel" (97 : Nat) ({ cls := "SecretVaultModel", name := "isUsed", desc := "(I)Z" } : Jvm.MethodName)) ∈ lw_all := lw_g (lw_at lw_m10 31 rfl) rfl
theorem q2258 : (Jvm.Cond.privateMethod ({ cls := "SecretVaultModel", name := "isUsed", desc := "(I)Z" } : Jvm.MethodName)) ∈ lw_tbl := lw_at lw_m10 32 rfl
theorem q2259 : (Jvm.Cond.instanceMethod ({ cls := "SecretVaultModel", name := "isUsed", desc := "(I)Z" } : Jvm.MethodName)) ∈ lw_all := lw_g (lw_at lw_m10 33 rfl) rfl
theorem q2260 : (Jvm.Cond.code ({ cls := "SecretVaultModel", name := "isUsed", desc := "(I)Z" } : Jvm.MethodName) prog_27_method_17_code (2 : Nat) (Option.some Jvm.ClassFile.FieldType.boolean)) ∈ lw_all := lw_g (lw_at lw_m10 34 rfl) rfl
theorem q2261 : (Jvm.Cond.methodLink "SecretVaultModel" (100 : Nat) ({ cls := "SecretVaultModel", name := "polynomial", desc := "(II)I" } : Jvm.MethodName)) ∈ lw_all := lw_g (lw_at lw_m10 35 rfl) rfl
theorem q2262 : (Jvm.Cond.privateMethod ({ cls := "SecretVaultModel", name := "polynomial", desc := "(II)I" } : Jvm.MethodName)) ∈ lw_tbl := lw_at lw_m10 36 rfl
theorem q2263 : (Jvm.Cond.instanceMethod ({ cls := "SecretVaultModel", name := "polynomial", desc := "(II)I" } : Jvm.MethodName)) ∈ lw_all := lw_g (lw_at lw_m10 37 rfl) rfl
theorem q2264 : (Jvm.Cond.code ({ cls := "SecretVaultModel", name := "polynomial", desc := "(II)I" } : Jvm.MethodName) prog_27_method_30_code (5 : Nat) (Option.some Jvm.ClassFile.FieldType.int)) ∈ lw_all := lw_g (lw_at lw_m10 38 rfl) rfl
theorem q2265 : (Jvm.Cond.methodLink "SecretVaultModel" (103 : Nat) ({ cls := "SecretVaultModel", name := "setsShare", desc := "(IIII)V" } : Jvm.MethodName)) ∈ lw_all := lw_g (lw_at lw_m10 39 rfl) rfl
theorem q2266 : (Jvm.Cond.privateMethod ({ cls := "SecretVaultModel", name := "setsShare", desc := "(IIII)V" } : Jvm.MethodName)) ∈ lw_tbl := lw_at lw_m10 40 rfl
theorem q2267 : (Jvm.Cond.instanceMethod ({ cls := "SecretVaultModel", name := "setsShare", desc := "(IIII)V" } : Jvm.MethodName)) ∈ lw_all := lw_g (lw_at lw_m10 41 rfl) rfl
theorem q2268 : (Jvm.Cond.code ({ cls := "SecretVaultModel", name := "setsShare", desc := "(IIII)V" } : Jvm.MethodName) prog_27_method_13_code (5 : Nat) (Option.none : Option Jvm.ClassFile.FieldType)) ∈ lw_all := lw_g (lw_at lw_m10 42 rfl) rfl
theorem q2269 : (Jvm.Cond.methodLink "SecretVaultModel" (117 : Nat) ({ cls := "SecretVaultModel", name := "happens", desc := "(I)V" } : Jvm.MethodName)) ∈ lw_all := lw_g (lw_at lw_m10 43 rfl) rfl
theorem q2270 : (Jvm.Cond.privateMethod ({ cls := "SecretVaultModel", name := "happens", desc := "(I)V" } : Jvm.MethodName)) ∈ lw_tbl := lw_at lw_m10 44 rfl
theorem q2271 : (Jvm.Cond.instanceMethod ({ cls := "SecretVaultModel", name := "happens", desc := "(I)V" } : Jvm.MethodName)) ∈ lw_all := lw_g (lw_at lw_m10 45 rfl) rfl
theorem q2272 : (Jvm.Cond.code ({ cls := "SecretVaultModel", name := "happens", desc := "(I)V" } : Jvm.MethodName) prog_27_method_19_code (3 : Nat) (Option.none : Option Jvm.ClassFile.FieldType)) ∈ lw_all := lw_g (lw_at lw_m10 46 rfl) rfl
theorem q2274 : (Jvm.Cond.instanceMethod ({ cls := "SecretVaultModel", name := "remove", desc := "(I)I" } : Jvm.MethodName)) ∈ lw_all := lw_g (lw_at lw_m10 48 rfl) rfl
theorem q2275 : (Jvm.Cond.selects "SecretVaultModel" ({ cls := "SecretVaultModel", name := "remove", desc := "(I)I" } : Jvm.MethodName) ({ cls := "SecretVaultModel", name := "remove", desc := "(I)I" } : Jvm.MethodName)) ∈ lw_all := lw_g (lw_at lw_m10 49 rfl) rfl
theorem q2276 : (Jvm.Cond.code ({ cls := "SecretVaultModel", name := "remove", desc := "(I)I" } : Jvm.MethodName) prog_27_method_35_code (5 : Nat) (Option.some Jvm.ClassFile.FieldType.int)) ∈ lw_all := lw_g (lw_at lw_m10 50 rfl) rfl
theorem q2277 : (Jvm.Cond.methodLink "SecretVaultModel" (121 : Nat) ({ cls := "SecretVaultModel", name := "lacks", desc := "(I)I" } : Jvm.MethodName)) ∈ lw_all := lw_g (lw_at lw_m10 51 rfl) rfl
theorem q2278 : (Jvm.Cond.privateMethod ({ cls := "SecretVaultModel", name := "lacks", desc := "(I)I" } : Jvm.MethodName)) ∈ lw_tbl := lw_at lw_m10 52 rfl
theorem q2279 : (Jvm.Cond.instanceMethod ({ cls := "SecretVaultModel", name := "lacks", desc := "(I)I" } : Jvm.MethodName)) ∈ lw_all := lw_g (lw_at lw_m10 53 rfl) rfl
theorem q2280 : (Jvm.Cond.code ({ cls := "SecretVaultModel", name := "lacks", desc := "(I)I" } : Jvm.MethodName) prog_27_method_34_code (2 : Nat) (Option.some Jvm.ClassFile.FieldType.int)) ∈ lw_all := lw_g (lw_at lw_m10 54 rfl) rfl
theorem q2282 : (Jvm.Cond.instanceMethod ({ cls := "SecretVaultModel", name := "refresh", desc := "(I)I" } : Jvm.MethodName)) ∈ lw_all := lw_g (lw_at lw_m10 56 rfl) rfl
theorem q2283 : (Jvm.Cond.selects "SecretVaultModel" ({ cls := "SecretVaultModel", name := "refresh", desc := "(I)I" } : Jvm.MethodName) ({ cls := "SecretVaultModel", name := "refresh", desc := "(I)I" } : Jvm.MethodName)) ∈ lw_all := lw_g (lw_at lw_m10 57 rfl) rfl
theorem q2284 : (Jvm.Cond.code ({ cls := "SecretVaultModel", name := "refresh", desc := "(I)I" } : Jvm.MethodName) prog_27_method_36_code (7 : Nat) (Option.some Jvm.ClassFile.FieldType.int)) ∈ lw_all := lw_g (lw_at lw_m10 58 rfl) rfl
theorem q2286 : (Jvm.Cond.instanceMethod ({ cls := "SecretVaultModel", name := "reshare", desc := "(III)I" } : Jvm.MethodName)) ∈ lw_all := lw_g (lw_at lw_m10 60 rfl) rfl
theorem q2287 : (Jvm.Cond.selects "SecretVaultModel" ({ cls := "SecretVaultModel", name := "reshare", desc := "(III)I" } : Jvm.MethodName) ({ cls := "SecretVaultModel", name := "reshare", desc := "(III)I" } : Jvm.MethodName)) ∈ lw_all := lw_g (lw_at lw_m10 61 rfl) rfl
theorem q2288 : (Jvm.Cond.code ({ cls := "SecretVaultModel", name := "reshare", desc := "(III)I" } : Jvm.MethodName) prog_27_method_49_code (6 : Nat) (Option.some Jvm.ClassFile.FieldType.int)) ∈ lw_all := lw_g (lw_at lw_m10 62 rfl) rfl
theorem q2289 : (Jvm.Cond.methodLink "SecretVaultModel" (159 : Nat) ({ cls := "SecretVaultModel", name := "isSet", desc := "(I)Z" } : Jvm.MethodName)) ∈ lw_all := lw_g (lw_at lw_m10 63 rfl) rfl
theorem q2290 : (Jvm.Cond.static ({ cls := "SecretVaultModel", name := "isSet", desc := "(I)Z" } : Jvm.MethodName)) ∈ lw_all := lw_g (lw_at lw_m10 64 rfl) rfl
theorem q2291 : (Jvm.Cond.code ({ cls := "SecretVaultModel", name := "isSet", desc := "(I)Z" } : Jvm.MethodName) prog_27_method_8_code (1 : Nat) (Option.some Jvm.ClassFile.FieldType.boolean)) ∈ lw_all := lw_g (lw_at lw_m10 65 rfl) rfl
theorem q2292 : (Jvm.Cond.methodLink "SecretVaultModel" (168 : Nat) ({ cls := "SecretVaultModel", name := "lacksOpen", desc := "(II)I" } : Jvm.MethodName)) ∈ lw_all := lw_g (lw_at lw_m10 66 rfl) rfl
theorem q2293 : (Jvm.Cond.privateMethod ({ cls := "SecretVaultModel", name := "lacksOpen", desc := "(II)I" } : Jvm.MethodName)) ∈ lw_tbl := lw_at lw_m10 67 rfl
theorem q2294 : (Jvm.Cond.instanceMethod ({ cls := "SecretVaultModel", name := "lacksOpen", desc := "(II)I" } : Jvm.MethodName)) ∈ lw_all := lw_g (lw_at lw_m10 68 rfl) rfl
theorem q2295 : (Jvm.Cond.code ({ cls := "SecretVaultModel", name := "lacksOpen", desc := "(II)I" } : Jvm.MethodName) prog_27_method_48_code (3 : Nat) (Option.some Jvm.ClassFile.FieldType.int)) ∈ lw_all := lw_g (lw_at lw_m10 69 rfl) rfl
theorem q2296 : (Jvm.Cond.methodLink "SecretVaultModel" (162 : Nat) ({ cls := "SecretVaultModel", name := "opens", desc := "(II)Z" } : Jvm.MethodName)) ∈ lw_all := lw_g (lw_at lw_m10 70 rfl) rfl
theorem q2297 : (Jvm.Cond.privateMethod ({ cls := "SecretVaultModel", name := "opens", desc := "(II)Z" } : Jvm.MethodName)) ∈ lw_tbl := lw_at lw_m10 71 rfl
theorem q2298 : (Jvm.Cond.instanceMethod ({ cls := "SecretVaultModel", name := "opens", desc := "(II)Z" } : Jvm.MethodName)) ∈ lw_all := lw_g (lw_at lw_m10 72 rfl) rfl
theorem q2299 : (Jvm.Cond.code ({ cls := "SecretVaultModel", name := "opens", desc := "(II)Z" } : Jvm.MethodName) prog_27_method_45_code (4 : Nat) (Option.some Jvm.ClassFile.FieldType.boolean)) ∈ lw_all := lw_g (lw_at lw_m10 73 rfl) rfl
theorem q2300 : (Jvm.Cond.methodLink "SecretVaultModel" (143 : Nat) ({ cls := "SecretVaultModel", name := "taken", desc := "(I)I" } : Jvm.MethodName)) ∈ lw_all := lw_g (lw_at lw_m10 74 rfl) rfl
theorem q2301 : (Jvm.Cond.privateMethod ({ cls := "SecretVaultModel", name := "taken", desc := "(I)I" } : Jvm.MethodName)) ∈ lw_tbl := lw_at lw_m10 75 rfl
theorem q2302 : (Jvm.Cond.instanceMethod ({ cls := "SecretVaultModel", name := "taken", desc := "(I)I" } : Jvm.MethodName)) ∈ lw_all := lw_g (lw_at lw_m10 76 rfl) rfl
theorem q2303 : (Jvm.Cond.code ({ cls := "SecretVaultModel", name := "taken", desc := "(I)I" } : Jvm.MethodName) prog_27_method_44_code (4 : Nat) (Option.some Jvm.ClassFile.FieldType.int)) ∈ lw_all := lw_g (lw_at lw_m10 77 rfl) rfl
theorem q2304 : (Jvm.Cond.methodLink "SecretVaultModel" (146 : Nat) ({ cls := "SecretVaultModel", name := "tellNodes", desc := "(IIZ)V" } : Jvm.MethodName)) ∈ lw_all := lw_g (lw_at lw_m10 78 rfl) rfl
theorem q2305 : (Jvm.Cond.privateMethod ({ cls := "SecretVaultModel", name := "tellNodes", desc := "(IIZ)V" } : Jvm.MethodName)) ∈ lw_tbl := lw_at lw_m10 79 rfl
theorem q2306 : (Jvm.Cond.instanceMethod ({ cls := "SecretVaultModel", name := "tellNodes", desc := "(IIZ)V" } : Jvm.MethodName)) ∈ lw_all := lw_g (lw_at lw_m10 80 rfl) rfl
theorem q2307 : (Jvm.Cond.code ({ cls := "SecretVaultModel", name := "tellNodes", desc := "(IIZ)V" } : Jvm.MethodName) prog_27_method_38_code (5 : Nat) (Option.none : Option Jvm.ClassFile.FieldType)) ∈ lw_all := lw_g (lw_at lw_m10 81 rfl) rfl
theorem q2308 : (Jvm.Cond.methodLink "SecretVaultModel" (150 : Nat) ({ cls := "SecretVaultModel", name := "fulfilled", desc := "(II)Z" } : Jvm.MethodName)) ∈ lw_all := lw_g (lw_at lw_m10 82 rfl) rfl
theorem q2309 : (Jvm.Cond.privateMethod ({ cls := "SecretVaultModel", name := "fulfilled", desc := "(II)Z" } : Jvm.MethodName)) ∈ lw_tbl := lw_at lw_m10 83 rfl
theorem q2310 : (Jvm.Cond.instanceMethod ({ cls := "SecretVaultModel", name := "fulfilled", desc := "(II)Z" } : Jvm.MethodName)) ∈ lw_all := lw_g (lw_at lw_m10 84 rfl) rfl
theorem q2311 : (Jvm.Cond.code ({ cls := "SecretVaultModel", name := "fulfilled", desc := "(II)Z" } : Jvm.MethodName) prog_27_method_43_code (3 : Nat) (Option.some Jvm.ClassFile.FieldType.boolean)) ∈ lw_all := lw_g (lw_at lw_m10 85 rfl) rfl
theorem q2312 : (Jvm.Cond.methodLink "SecretVaultModel" (140 : Nat) ({ cls := "SecretVaultModel", name := "hasPolicy", desc := "(I)Z" } : Jvm.MethodName)) ∈ lw_all := lw_g (lw_at lw_m10 86 rfl) rfl
theorem q2313 : (Jvm.Cond.privateMethod ({ cls := "SecretVaultModel", name := "hasPolicy", desc := "(I)Z" } : Jvm.MethodName)) ∈ lw_tbl := lw_at lw_m10 87 rfl
theorem q2314 : (Jvm.Cond.instanceMethod ({ cls := "SecretVaultModel", name := "hasPolicy", desc := "(I)Z" } : Jvm.MethodName)) ∈ lw_all := lw_g (lw_at lw_m10 88 rfl) rfl
theorem q2315 : (Jvm.Cond.code ({ cls := "SecretVaultModel", name := "hasPolicy", desc := "(I)Z" } : Jvm.MethodName) prog_27_method_42_code (2 : Nat) (Option.some Jvm.ClassFile.FieldType.boolean)) ∈ lw_all := lw_g (lw_at lw_m10 89 rfl) rfl
theorem q2316 : (Jvm.Cond.methodLink "SecretVaultModel" (133 : Nat) ({ cls := "SecretVaultModel", name := "holds", desc := "(LSecretVaultModel;IIII)Z" } : Jvm.MethodName)) ∈ lw_all := lw_g (lw_at lw_m10 90 rfl) rfl
theorem q2317 : (Jvm.Cond.static ({ cls := "SecretVaultModel", name := "holds", desc := "(LSecretVaultModel;IIII)Z" } : Jvm.MethodName)) ∈ lw_all := lw_g (lw_at lw_m10 91 rfl) rfl
theorem q2318 : (Jvm.Cond.code ({ cls := "SecretVaultModel", name := "holds", desc := "(LSecretVaultModel;IIII)Z" } : Jvm.MethodName) prog_27_method_41_code (11 : Nat) (Option.some Jvm.ClassFile.FieldType.boolean)) ∈ lw_all := lw_g (lw_at lw_m10 92 rfl) rfl
theorem q2319 : (Jvm.Cond.methodLink "SecretVaultModel" (130 : Nat) ({ cls := "SecretVaultModel", name := "next", desc := "(IIII)I" } : Jvm.MethodName)) ∈ lw_all := lw_g (lw_at lw_m10 93 rfl) rfl
theorem q2320 : (Jvm.Cond.privateMethod ({ cls := "SecretVaultModel", name := "next", desc := "(IIII)I" } : Jvm.MethodName)) ∈ lw_tbl := lw_at lw_m10 94 rfl
theorem q2321 : (Jvm.Cond.instanceMethod ({ cls := "SecretVaultModel", name := "next", desc := "(IIII)I" } : Jvm.MethodName)) ∈ lw_all := lw_g (lw_at lw_m10 95 rfl) rfl
theorem q2322 : (Jvm.Cond.code ({ cls := "SecretVaultModel", name := "next", desc := "(IIII)I" } : Jvm.MethodName) prog_27_method_39_code (8 : Nat) (Option.some Jvm.ClassFile.FieldType.int)) ∈ lw_all := lw_g (lw_at lw_m10 96 rfl) rfl
theorem q2323 : (Jvm.Cond.methodLink "SecretVaultModel" (137 : Nat) ({ cls := "SecretVaultModel", name := "isCount", desc := "(III)Z" } : Jvm.MethodName)) ∈ lw_all := lw_g (lw_at lw_m10 97 rfl) rfl
theorem q2324 : (Jvm.Cond.privateMethod ({ cls := "SecretVaultModel", name := "isCount", desc := "(III)Z" } : Jvm.MethodName)) ∈ lw_tbl := lw_at lw_m10 98 rfl
theorem q2325 : (Jvm.Cond.instanceMethod ({ cls := "SecretVaultModel", name := "isCount", desc := "(III)Z" } : Jvm.MethodName)) ∈ lw_all := lw_g (lw_at lw_m10 99 rfl) rfl
theorem q2326 : (Jvm.Cond.code ({ cls := "SecretVaultModel", name := "isCount", desc := "(III)Z" } : Jvm.MethodName) prog_27_method_40_code (4 : Nat) (Option.some Jvm.ClassFile.FieldType.boolean)) ∈ lw_all := lw_g (lw_at lw_m10 100 rfl) rfl
theorem q2327 : (Jvm.Cond.methodLink "SecretVaultModel" (165 : Nat) ({ cls := "SecretVaultModel", name := "reports", desc := "(II)V" } : Jvm.MethodName)) ∈ lw_all := lw_g (lw_at lw_m10 101 rfl) rfl
theorem q2328 : (Jvm.Cond.privateMethod ({ cls := "SecretVaultModel", name := "reports", desc := "(II)V" } : Jvm.MethodName)) ∈ lw_tbl := lw_at lw_m10 102 rfl
theorem q2329 : (Jvm.Cond.instanceMethod ({ cls := "SecretVaultModel", name := "reports", desc := "(II)V" } : Jvm.MethodName)) ∈ lw_all := lw_g (lw_at lw_m10 103 rfl) rfl
theorem q2330 : (Jvm.Cond.code ({ cls := "SecretVaultModel", name := "reports", desc := "(II)V" } : Jvm.MethodName) prog_27_method_47_code (5 : Nat) (Option.none : Option Jvm.ClassFile.FieldType)) ∈ lw_all := lw_g (lw_at lw_m10 104 rfl) rfl
theorem q2331 : (Jvm.Cond.methodLink "SecretVaultModel" (156 : Nat) ({ cls := "SecretVaultModel", name := "level", desc := "(II)V" } : Jvm.MethodName)) ∈ lw_all := lw_g (lw_at lw_m10 105 rfl) rfl
theorem q2332 : (Jvm.Cond.privateMethod ({ cls := "SecretVaultModel", name := "level", desc := "(II)V" } : Jvm.MethodName)) ∈ lw_tbl := lw_at lw_m10 106 rfl
theorem q2333 : (Jvm.Cond.instanceMethod ({ cls := "SecretVaultModel", name := "level", desc := "(II)V" } : Jvm.MethodName)) ∈ lw_all := lw_g (lw_at lw_m10 107 rfl) rfl
theorem q2334 : (Jvm.Cond.code ({ cls := "SecretVaultModel", name := "level", desc := "(II)V" } : Jvm.MethodName) prog_27_method_46_code (3 : Nat) (Option.none : Option Jvm.ClassFile.FieldType)) ∈ lw_all := lw_g (lw_at lw_m10 108 rfl) rfl
theorem q2335 : (Jvm.Cond.methodLink "SecretVaultModel" (171 : Nat) ({ cls := "SecretVaultModel", name := "valueAt", desc := "(III)I" } : Jvm.MethodName)) ∈ lw_all := lw_g (lw_at lw_m10 109 rfl) rfl
theorem q2336 : (Jvm.Cond.privateMethod ({ cls := "SecretVaultModel", name := "valueAt", desc := "(III)I" } : Jvm.MethodName)) ∈ lw_tbl := lw_at lw_m10 110 rfl
theorem q2337 : (Jvm.Cond.instanceMethod ({ cls := "SecretVaultModel", name := "valueAt", desc := "(III)I" } : Jvm.MethodName)) ∈ lw_all := lw_g (lw_at lw_m10 111 rfl) rfl
theorem q2338 : (Jvm.Cond.code ({ cls := "SecretVaultModel", name := "valueAt", desc := "(III)I" } : Jvm.MethodName) prog_27_method_37_code (8 : Nat) (Option.some Jvm.ClassFile.FieldType.int)) ∈ lw_all := lw_g (lw_at lw_m10 112 rfl) rfl
theorem q2339 : (Jvm.Cond.methodLink "SecretVaultModel" (124 : Nat) ({ cls := "SecretVaultModel", name := "inverse", desc := "(I)I" } : Jvm.MethodName)) ∈ lw_all := lw_g (lw_at lw_m10 113 rfl) rfl
theorem q2340 : (Jvm.Cond.static ({ cls := "SecretVaultModel", name := "inverse", desc := "(I)I" } : Jvm.MethodName)) ∈ lw_all := lw_g (lw_at lw_m10 114 rfl) rfl
theorem q2341 : (Jvm.Cond.code ({ cls := "SecretVaultModel", name := "inverse", desc := "(I)I" } : Jvm.MethodName) prog_27_method_21_code (1 : Nat) (Option.some Jvm.ClassFile.FieldType.int)) ∈ lw_all := lw_g (lw_at lw_m10 115 rfl) rfl
theorem q2343 : (Jvm.Cond.instanceMethod ({ cls := "SecretVaultModel", name := "enroll", desc := "(III)I" } : Jvm.MethodName)) ∈ lw_all := lw_g (lw_at lw_m10 117 rfl) rfl
theorem q2344 : (Jvm.Cond.selects "SecretVaultModel" ({ cls := "SecretVaultModel", name := "enroll", desc := "(III)I" } : Jvm.MethodName) ({ cls := "SecretVaultModel", name := "enroll", desc := "(III)I" } : Jvm.MethodName)) ∈ lw_all := lw_g (lw_at lw_m10 118 rfl) rfl
theorem q2345 : (Jvm.Cond.code ({ cls := "SecretVaultModel", name := "enroll", desc := "(III)I" } : Jvm.MethodName) prog_27_method_50_code (8 : Nat) (Option.some Jvm.ClassFile.FieldType.int)) ∈ lw_all := lw_g (lw_at lw_m10 119 rfl) rfl
theorem q2346 : (Jvm.Cond.methodLink "SecretVaultModel" (174 : Nat) ({ cls := "SecretVaultModel", name := "isGood", desc := "(II)Z" } : Jvm.MethodName)) ∈ lw_all := lw_g (lw_at lw_m10 120 rfl) rfl
theorem q2347 : (Jvm.Cond.privateMethod ({ cls := "SecretVaultModel", name := "isGood", desc := "(II)Z" } : Jvm.MethodName)) ∈ lw_tbl := lw_at lw_m10 121 rfl
theorem q2348 : (Jvm.Cond.instanceMethod ({ cls := "SecretVaultModel", name := "isGood", desc := "(II)Z" } : Jvm.MethodName)) ∈ lw_all := lw_g (lw_at lw_m10 122 rfl) rfl
theorem q2349 : (Jvm.Cond.code ({ cls := "SecretVaultModel", name := "isGood", desc := "(II)Z" } : Jvm.MethodName) prog_27_method_29_code (3 : Nat) (Option.some Jvm.ClassFile.FieldType.boolean)) ∈ lw_all := lw_g (lw_at lw_m10 123 rfl) rfl
theorem q2351 : (Jvm.Cond.instanceMethod ({ cls := "SecretVaultModel", name := "expel", desc := "(II)I" } : Jvm.MethodName)) ∈ lw_all := lw_g (lw_at lw_m10 125 rfl) rfl
theorem q2352 : (Jvm.Cond.selects "SecretVaultModel" ({ cls := "SecretVaultModel", name := "expel", desc := "(II)I" } : Jvm.MethodName) ({ cls := "SecretVaultModel", name := "expel", desc := "(II)I" } : Jvm.MethodName)) ∈ lw_all := lw_g (lw_at lw_m10 126 rfl) rfl
theorem q2353 : (Jvm.Cond.code ({ cls := "SecretVaultModel", name := "expel", desc := "(II)I" } : Jvm.MethodName) prog_27_method_51_code (5 : Nat) (Option.some Jvm.ClassFile.FieldType.int)) ∈ lw_all := lw_g (lw_at lw_m10 127 rfl) rfl
theorem q2355 : (Jvm.Cond.instanceMethod ({ cls := "SecretVaultModel", name := "open", desc := "(II)I" } : Jvm.MethodName)) ∈ lw_all := lw_g (lw_at lw_m10 129 rfl) rfl
theorem q2356 : (Jvm.Cond.selects "SecretVaultModel" ({ cls := "SecretVaultModel", name := "open", desc := "(II)I" } : Jvm.MethodName) ({ cls := "SecretVaultModel", name := "open", desc := "(II)I" } : Jvm.MethodName)) ∈ lw_all := lw_g (lw_at lw_m10 130 rfl) rfl
theorem q2357 : (Jvm.Cond.code ({ cls := "SecretVaultModel", name := "open", desc := "(II)I" } : Jvm.MethodName) prog_27_method_52_code (4 : Nat) (Option.some Jvm.ClassFile.FieldType.int)) ∈ lw_all := lw_g (lw_at lw_m10 131 rfl) rfl
theorem q2359 : (Jvm.Cond.instanceMethod ({ cls := "SecretVaultModel", name := "combine", desc := "(II)I" } : Jvm.MethodName)) ∈ lw_all := lw_g (lw_at lw_m10 133 rfl) rfl
theorem q2360 : (Jvm.Cond.selects "SecretVaultModel" ({ cls := "SecretVaultModel", name := "combine", desc := "(II)I" } : Jvm.MethodName) ({ cls := "SecretVaultModel", name := "combine", desc := "(II)I" } : Jvm.MethodName)) ∈ lw_all := lw_g (lw_at lw_m10 134 rfl) rfl
theorem q2361 : (Jvm.Cond.code ({ cls := "SecretVaultModel", name := "combine", desc := "(II)I" } : Jvm.MethodName) prog_27_method_54_code (4 : Nat) (Option.some Jvm.ClassFile.FieldType.int)) ∈ lw_all := lw_g (lw_at lw_m10 135 rfl) rfl
theorem q2362 : (Jvm.Cond.methodLink "SecretVaultModel" (177 : Nat) ({ cls := "SecretVaultModel", name := "lacksSet", desc := "(II)I" } : Jvm.MethodName)) ∈ lw_all := lw_g (lw_at lw_m10 136 rfl) rfl
theorem q2363 : (Jvm.Cond.privateMethod ({ cls := "SecretVaultModel", name := "lacksSet", desc := "(II)I" } : Jvm.MethodName)) ∈ lw_tbl := lw_at lw_m10 137 rfl
theorem q2364 : (Jvm.Cond.instanceMethod ({ cls := "SecretVaultModel", name := "lacksSet", desc := "(II)I" } : Jvm.MethodName)) ∈ lw_all := lw_g (lw_at lw_m10 138 rfl) rfl
theorem q2365 : (Jvm.Cond.code ({ cls := "SecretVaultModel", name := "lacksSet", desc := "(II)I" } : Jvm.MethodName) prog_27_method_53_code (3 : Nat) (Option.some Jvm.ClassFile.FieldType.int)) ∈ lw_all := lw_g (lw_at lw_m10 139 rfl) rfl
theorem q2367 : (Jvm.Cond.instanceMethod ({ cls := "SecretVaultModel", name := "agree", desc := "(II)Z" } : Jvm.MethodName)) ∈ lw_all := lw_g (lw_at lw_m10 141 rfl) rfl
theorem q2368 : (Jvm.Cond.selects "SecretVaultModel" ({ cls := "SecretVaultModel", name := "agree", desc := "(II)Z" } : Jvm.MethodName) ({ cls := "SecretVaultModel", name := "agree", desc := "(II)Z" } : Jvm.MethodName)) ∈ lw_all := lw_g (lw_at lw_m10 142 rfl) rfl
theorem q2369 : (Jvm.Cond.code ({ cls := "SecretVaultModel", name := "agree", desc := "(II)Z" } : Jvm.MethodName) prog_27_method_55_code (5 : Nat) (Option.some Jvm.ClassFile.FieldType.boolean)) ∈ lw_all := lw_g (lw_at lw_m10 143 rfl) rfl
theorem q2371 : (Jvm.Cond.instanceMethod ({ cls := "SecretVaultModel", name := "secret", desc := "(II)I" } : Jvm.MethodName)) ∈ lw_all := lw_g (lw_at lw_m10 145 rfl) rfl
theorem q2372 : (Jvm.Cond.selects "SecretVaultModel" ({ cls := "SecretVaultModel", name := "secret", desc := "(II)I" } : Jvm.MethodName) ({ cls := "SecretVaultModel", name := "secret", desc := "(II)I" } : Jvm.MethodName)) ∈ lw_all := lw_g (lw_at lw_m10 146 rfl) rfl
theorem q2373 : (Jvm.Cond.code ({ cls := "SecretVaultModel", name := "secret", desc := "(II)I" } : Jvm.MethodName) prog_27_method_57_code (3 : Nat) (Option.some Jvm.ClassFile.FieldType.int)) ∈ lw_all := lw_g (lw_at lw_m10 147 rfl) rfl
theorem q2374 : (Jvm.Cond.methodLink "SecretVaultModel" (180 : Nat) ({ cls := "SecretVaultModel", name := "count", desc := "(II)I" } : Jvm.MethodName)) ∈ lw_all := lw_g (lw_at lw_m10 148 rfl) rfl
theorem q2375 : (Jvm.Cond.privateMethod ({ cls := "SecretVaultModel", name := "count", desc := "(II)I" } : Jvm.MethodName)) ∈ lw_tbl := lw_at lw_m10 149 rfl
theorem q2376 : (Jvm.Cond.instanceMethod ({ cls := "SecretVaultModel", name := "count", desc := "(II)I" } : Jvm.MethodName)) ∈ lw_all := lw_g (lw_at lw_m10 150 rfl) rfl
theorem q2377 : (Jvm.Cond.code ({ cls := "SecretVaultModel", name := "count", desc := "(II)I" } : Jvm.MethodName) prog_27_method_56_code (5 : Nat) (Option.some Jvm.ClassFile.FieldType.int)) ∈ lw_all := lw_g (lw_at lw_m10 151 rfl) rfl
theorem q2379 : (Jvm.Cond.instanceMethod ({ cls := "SecretVaultModel", name := "commitment", desc := "(II)I" } : Jvm.MethodName)) ∈ lw_all := lw_g (lw_at lw_m10 153 rfl) rfl
theorem q2380 : (Jvm.Cond.selects "SecretVaultModel" ({ cls := "SecretVaultModel", name := "commitment", desc := "(II)I" } : Jvm.MethodName) ({ cls := "SecretVaultModel", name := "commitment", desc := "(II)I" } : Jvm.MethodName)) ∈ lw_all := lw_g (lw_at lw_m10 154 rfl) rfl
theorem q2381 : (Jvm.Cond.code ({ cls := "SecretVaultModel", name := "commitment", desc := "(II)I" } : Jvm.MethodName) prog_27_method_58_code (4 : Nat) (Option.some Jvm.ClassFile.FieldType.int)) ∈ lw_all := lw_g (lw_at lw_m10 155 rfl) rfl
theorem q2383 : (Jvm.Cond.instanceMethod ({ cls := "SecretVaultModel", name := "share", desc := "(III)I" } : Jvm.MethodName)) ∈ lw_all := lw_g (lw_at lw_m10 157 rfl) rfl
theorem q2384 : (Jvm.Cond.selects "SecretVaultModel" ({ cls := "SecretVaultModel", name := "share", desc := "(III)I" } : Jvm.MethodName) ({ cls := "SecretVaultModel", name := "share", desc := "(III)I" } : Jvm.MethodName)) ∈ lw_all := lw_g (lw_at lw_m10 158 rfl) rfl
theorem q2385 : (Jvm.Cond.code ({ cls := "SecretVaultModel", name := "share", desc := "(III)I" } : Jvm.MethodName) prog_27_method_59_code (4 : Nat) (Option.some Jvm.ClassFile.FieldType.int)) ∈ lw_all := lw_g (lw_at lw_m10 159 rfl) rfl
theorem q2386 : (Jvm.Cond.methodLink "SecretVaultModel" (183 : Nat) ({ cls := "SecretVaultModel", name := "isPlace", desc := "(I)Z" } : Jvm.MethodName)) ∈ lw_all := lw_g (lw_at lw_m10 160 rfl) rfl
theorem q2387 : (Jvm.Cond.static ({ cls := "SecretVaultModel", name := "isPlace", desc := "(I)Z" } : Jvm.MethodName)) ∈ lw_all := lw_g (lw_at lw_m10 161 rfl) rfl
theorem q2388 : (Jvm.Cond.code ({ cls := "SecretVaultModel", name := "isPlace", desc := "(I)Z" } : Jvm.MethodName) prog_27_method_9_code (1 : Nat) (Option.some Jvm.ClassFile.FieldType.boolean)) ∈ lw_all := lw_g (lw_at lw_m10 162 rfl) rfl
theorem q2390 : (Jvm.Cond.instanceMethod ({ cls := "SecretVaultModel", name := "setShare", desc := "(III)I" } : Jvm.MethodName)) ∈ lw_all := lw_g (lw_at lw_m10 164 rfl) rfl
theorem q2391 : (Jvm.Cond.selects "SecretVaultModel" ({ cls := "SecretVaultModel", name := "setShare", desc := "(III)I" } : Jvm.MethodName) ({ cls := "SecretVaultModel", name := "setShare", desc := "(III)I" } : Jvm.MethodName)) ∈ lw_all := lw_g (lw_at lw_m10 165 rfl) rfl
theorem q2392 : (Jvm.Cond.code ({ cls := "SecretVaultModel", name := "setShare", desc := "(III)I" } : Jvm.MethodName) prog_27_method_60_code (5 : Nat) (Option.some Jvm.ClassFile.FieldType.int)) ∈ lw_all := lw_g (lw_at lw_m10 166 rfl) rfl
theorem q2394 : (Jvm.Cond.instanceMethod ({ cls := "SecretVaultModel", name := "shareText", desc := "(III)I" } : Jvm.MethodName)) ∈ lw_all := lw_g (lw_at lw_m10 168 rfl) rfl
theorem q2395 : (Jvm.Cond.selects "SecretVaultModel" ({ cls := "SecretVaultModel", name := "shareText", desc := "(III)I" } : Jvm.MethodName) ({ cls := "SecretVaultModel", name := "shareText", desc := "(III)I" } : Jvm.MethodName)) ∈ lw_all := lw_g (lw_at lw_m10 169 rfl) rfl
theorem q2396 : (Jvm.Cond.code ({ cls := "SecretVaultModel", name := "shareText", desc := "(III)I" } : Jvm.MethodName) prog_27_method_65_code (6 : Nat) (Option.some Jvm.ClassFile.FieldType.int)) ∈ lw_all := lw_g (lw_at lw_m10 170 rfl) rfl
theorem q2397 : (Jvm.Cond.methodLink "SecretVaultModel" (192 : Nat) ({ cls := "SecretVaultModel", name := "writesNumber", desc := "(I)V" } : Jvm.MethodName)) ∈ lw_all := lw_g (lw_at lw_m10 171 rfl) rfl
theorem q2398 : (Jvm.Cond.privateMethod ({ cls := "SecretVaultModel", name := "writesNumber", desc := "(I)V" } : Jvm.MethodName)) ∈ lw_tbl := lw_at lw_m10 172 rfl
theorem q2399 : (Jvm.Cond.instanceMethod ({ cls := "SecretVaultModel", name := "writesNumber", desc := "(I)V" } : Jvm.MethodName)) ∈ lw_all := lw_g (lw_at lw_m10 173 rfl) rfl
theorem q2400 : (Jvm.Cond.code ({ cls := "SecretVaultModel", name := "writesNumber", desc := "(I)V" } : Jvm.MethodName) prog_27_method_62_code (3 : Nat) (Option.none : Option Jvm.ClassFile.FieldType)) ∈ lw_all := lw_g (lw_at lw_m10 174 rfl) rfl
theorem q2401 : (Jvm.Cond.methodLink "SecretVaultModel" (189 : Nat) ({ cls := "SecretVaultModel", name := "writes", desc := "(I)V" } : Jvm.MethodName)) ∈ lw_all := lw_g (lw_at lw_m10 175 rfl) rfl
theorem q2402 : (Jvm.Cond.privateMethod ({ cls := "SecretVaultModel", name := "writes", desc := "(I)V" } : Jvm.MethodName)) ∈ lw_tbl := lw_at lw_m10 176 rfl
theorem q2403 : (Jvm.Cond.instanceMethod ({ cls := "SecretVaultModel", name := "writes", desc := "(I)V" } : Jvm.MethodName)) ∈ lw_all := lw_g (lw_at lw_m10 177 rfl) rfl
theorem q2404 : (Jvm.Cond.code ({ cls := "SecretVaultModel", name := "writes", desc := "(I)V" } : Jvm.MethodName) prog_27_method_61_code (2 : Nat) (Option.none : Option Jvm.ClassFile.FieldType)) ∈ lw_all := lw_g (lw_at lw_m10 178 rfl) rfl
theorem q2405 : (Jvm.Cond.methodLink "SecretVaultModel" (195 : Nat) ({ cls := "SecretVaultModel", name := "lastDigit", desc := "(III)I" } : Jvm.MethodName)) ∈ lw_all := lw_g (lw_at lw_m10 179 rfl) rfl
theorem q2406 : (Jvm.Cond.static ({ cls := "SecretVaultModel", name := "lastDigit", desc := "(III)I" } : Jvm.MethodName)) ∈ lw_all := lw_g (lw_at lw_m10 180 rfl) rfl
theorem q2407 : (Jvm.Cond.code ({ cls := "SecretVaultModel", name := "lastDigit", desc := "(III)I" } : Jvm.MethodName) prog_27_method_63_code (3 : Nat) (Option.some Jvm.ClassFile.FieldType.int)) ∈ lw_all := lw_g (lw_at lw_m10 181 rfl) rfl
theorem q2408 : (Jvm.Cond.methodLink "SecretVaultModel" (198 : Nat) ({ cls := "SecretVaultModel", name := "paperAt", desc := "(I)I" } : Jvm.MethodName)) ∈ lw_all := lw_g (lw_at lw_m10 182 rfl) rfl
theorem q2409 : (Jvm.Cond.privateMethod ({ cls := "SecretVaultModel", name := "paperAt", desc := "(I)I" } : Jvm.MethodName)) ∈ lw_tbl := lw_at lw_m10 183 rfl
theorem q2410 : (Jvm.Cond.instanceMethod ({ cls := "SecretVaultModel", name := "paperAt", desc := "(I)I" } : Jvm.MethodName)) ∈ lw_all := lw_g (lw_at lw_m10 184 rfl) rfl
theorem q2411 : (Jvm.Cond.code ({ cls := "SecretVaultModel", name := "paperAt", desc := "(I)I" } : Jvm.MethodName) prog_27_method_64_code (2 : Nat) (Option.some Jvm.ClassFile.FieldType.int)) ∈ lw_all := lw_g (lw_at lw_m10 185 rfl) rfl
theorem q2413 : (Jvm.Cond.instanceMethod ({ cls := "SecretVaultModel", name := "append", desc := "(I)I" } : Jvm.MethodName)) ∈ lw_all := lw_g (lw_at lw_m10 187 rfl) rfl
theorem q2414 : (Jvm.Cond.selects "SecretVaultModel" ({ cls := "SecretVaultModel", name := "append", desc := "(I)I" } : Jvm.MethodName) ({ cls := "SecretVaultModel", name := "append", desc := "(I)I" } : Jvm.MethodName)) ∈ lw_all := lw_g (lw_at lw_m10 188 rfl) rfl
theorem q2415 : (Jvm.Cond.code ({ cls := "SecretVaultModel", name := "append", desc := "(I)I" } : Jvm.MethodName) prog_27_method_66_code (5 : Nat) (Option.some Jvm.ClassFile.FieldType.int)) ∈ lw_all := lw_g (lw_at lw_m10 189 rfl) rfl
theorem q2417 : (Jvm.Cond.instanceMethod ({ cls := "SecretVaultModel", name := "importShare", desc := "(I)I" } : Jvm.MethodName)) ∈ lw_all := lw_g (lw_at lw_m10 191 rfl) rfl
theorem q2418 : (Jvm.Cond.selects "SecretVaultModel" ({ cls := "SecretVaultModel", name := "importShare", desc := "(I)I" } : Jvm.MethodName) ({ cls := "SecretVaultModel", name := "importShare", desc := "(I)I" } : Jvm.MethodName)) ∈ lw_all := lw_g (lw_at lw_m10 192 rfl) rfl
theorem q2419 : (Jvm.Cond.code ({ cls := "SecretVaultModel", name := "importShare", desc := "(I)I" } : Jvm.MethodName) prog_27_method_71_code (4 : Nat) (Option.some Jvm.ClassFile.FieldType.int)) ∈ lw_all := lw_g (lw_at lw_m10 193 rfl) rfl
theorem q2420 : (Jvm.Cond.methodLink "SecretVaultModel" (228 : Nat) ({ cls := "SecretVaultModel", name := "readsShare", desc := "()Z" } : Jvm.MethodName)) ∈ lw_all := lw_g (lw_at lw_m10 194 rfl) rfl
theorem q2421 : (Jvm.Cond.privateMethod ({ cls := "SecretVaultModel", name := "readsShare", desc := "()Z" } : Jvm.MethodName)) ∈ lw_tbl := lw_at lw_m10 195 rfl
theorem q2422 : (Jvm.Cond.instanceMethod ({ cls := "SecretVaultModel", name := "readsShare", desc := "()Z" } : Jvm.MethodName)) ∈ lw_all := lw_g (lw_at lw_m10 196 rfl) rfl
theorem q2423 : (Jvm.Cond.code ({ cls := "SecretVaultModel", name := "readsShare", desc := "()Z" } : Jvm.MethodName) prog_27_method_70_code (1 : Nat) (Option.some Jvm.ClassFile.FieldType.boolean)) ∈ lw_all := lw_g (lw_at lw_m10 197 rfl) rfl
theorem q2424 : (Jvm.Cond.methodLink "SecretVaultModel" (213 : Nat) ({ cls := "SecretVaultModel", name := "readsNumber", desc := "(II)Z" } : Jvm.MethodName)) ∈ lw_all := lw_g (lw_at lw_m10 198 rfl) rfl
theorem q2425 : (Jvm.Cond.privateMethod ({ cls := "SecretVaultModel", name := "readsNumber", desc := "(II)Z" } : Jvm.MethodName)) ∈ lw_tbl := lw_at lw_m10 199 rfl
theorem q2426 : (Jvm.Cond.instanceMethod ({ cls := "SecretVaultModel", name := "readsNumber", desc := "(II)Z" } : Jvm.MethodName)) ∈ lw_all := lw_g (lw_at lw_m10 200 rfl) rfl
theorem q2427 : (Jvm.Cond.code ({ cls := "SecretVaultModel", name := "readsNumber", desc := "(II)Z" } : Jvm.MethodName) prog_27_method_69_code (4 : Nat) (Option.some Jvm.ClassFile.FieldType.boolean)) ∈ lw_all := lw_g (lw_at lw_m10 201 rfl) rfl
theorem q2428 : (Jvm.Cond.methodLink "SecretVaultModel" (207 : Nat) ({ cls := "SecretVaultModel", name := "here", desc := "()I" } : Jvm.MethodName)) ∈ lw_all := lw_g (lw_at lw_m10 202 rfl) rfl
theorem q2429 : (Jvm.Cond.privateMethod ({ cls := "SecretVaultModel", name := "here", desc := "()I" } : Jvm.MethodName)) ∈ lw_tbl := lw_at lw_m10 203 rfl
theorem q2430 : (Jvm.Cond.instanceMethod ({ cls := "SecretVaultModel", name := "here", desc := "()I" } : Jvm.MethodName)) ∈ lw_all := lw_g (lw_at lw_m10 204 rfl) rfl
theorem q2431 : (Jvm.Cond.code ({ cls := "SecretVaultModel", name := "here", desc := "()I" } : Jvm.MethodName) prog_27_method_67_code (1 : Nat) (Option.some Jvm.ClassFile.FieldType.int)) ∈ lw_all := lw_g (lw_at lw_m10 205 rfl) rfl
theorem q2432 : (Jvm.Cond.methodLink "SecretVaultModel" (219 : Nat) ({ cls := "SecretVaultModel", name := "eats", desc := "(I)Z" } : Jvm.MethodName)) ∈ lw_all := lw_g (lw_at lw_m10 206 rfl) rfl
theorem q2433 : (Jvm.Cond.privateMethod ({ cls := "SecretVaultModel", name := "eats", desc := "(I)Z" } : Jvm.MethodName)) ∈ lw_tbl := lw_at lw_m10 207 rfl
theorem q2434 : (Jvm.Cond.instanceMethod ({ cls := "SecretVaultModel", name := "eats", desc := "(I)Z" } : Jvm.MethodName)) ∈ lw_all := lw_g (lw_at lw_m10 208 rfl) rfl
theorem q2435 : (Jvm.Cond.code ({ cls := "SecretVaultModel", name := "eats", desc := "(I)Z" } : Jvm.MethodName) prog_27_method_68_code (3 : Nat) (Option.some Jvm.ClassFile.FieldType.boolean)) ∈ lw_all := lw_g (lw_at lw_m10 209 rfl) rfl
theorem q2437 : (Jvm.Cond.instanceMethod ({ cls := "SecretVaultModel", name := "bad", desc := "(II)I" } : Jvm.MethodName)) ∈ lw_all := lw_g (lw_at lw_m10 211 rfl) rfl
theorem q2438 : (Jvm.Cond.selects "SecretVaultModel" ({ cls := "SecretVaultModel", name := "bad", desc := "(II)I" } : Jvm.MethodName) ({ cls := "SecretVaultModel", name := "bad", desc := "(II)I" } : Jvm.MethodName)) ∈ lw_all := lw_g (lw_at lw_m10 212 rfl) rfl
theorem q2439 : (Jvm.Cond.code ({ cls := "SecretVaultModel", name := "bad", desc := "(II)I" } : Jvm.MethodName) prog_27_method_72_code (6 : Nat) (Option.some Jvm.ClassFile.FieldType.int)) ∈ lw_all := lw_g (lw_at lw_m10 213 rfl) rfl
theorem q2441 : (Jvm.Cond.instanceMethod ({ cls := "SecretVaultModel", name := "setPolicy", desc := "(I)Z" } : Jvm.MethodName)) ∈ lw_all := lw_g (lw_at lw_m10 215 rfl) rfl
theorem q2442 : (Jvm.Cond.selects "SecretVaultModel" ({ cls := "SecretVaultModel", name := "setPolicy", desc := "(I)Z" } : Jvm.MethodName) ({ cls := "SecretVaultModel", name := "setPolicy", desc := "(I)Z" } : Jvm.MethodName)) ∈ lw_all := lw_g (lw_at lw_m10 216 rfl) rfl
theorem q2443 : (Jvm.Cond.code ({ cls := "SecretVaultModel", name := "setPolicy", desc := "(I)Z" } : Jvm.MethodName) prog_27_method_76_code (5 : Nat) (Option.some Jvm.ClassFile.FieldType.boolean)) ∈ lw_all := lw_g (lw_at lw_m10 217 rfl) rfl
theorem q2444 : (Jvm.Cond.methodLink "SecretVaultModel" (232 : Nat) ({ cls := "SecretVaultModel", name := "readsPolicy", desc := "(LSecretVaultModel;)Z" } : Jvm.MethodName)) ∈ lw_all := lw_g (lw_at lw_m10 218 rfl) rfl
theorem q2445 : (Jvm.Cond.static ({ cls := "SecretVaultModel", name := "readsPolicy", desc := "(LSecretVaultModel;)Z" } : Jvm.MethodName)) ∈ lw_all := lw_g (lw_at lw_m10 219 rfl) rfl
theorem q2446 : (Jvm.Cond.code ({ cls := "SecretVaultModel", name := "readsPolicy", desc := "(LSecretVaultModel;)Z" } : Jvm.MethodName) prog_27_method_75_code (2 : Nat) (Option.some Jvm.ClassFile.FieldType.boolean)) ∈ lw_all := lw_g (lw_at lw_m10 220 rfl) rfl
theorem q2447 : (Jvm.Cond.methodLink "SecretVaultModel" (239 : Nat) ({ cls := "SecretVaultModel", name := "readsAll", desc := "(LSecretVaultModel;)Z" } : Jvm.MethodName)) ∈ lw_all := lw_g (lw_at lw_m10 221 rfl) rfl
theorem q2448 : (Jvm.Cond.static ({ cls := "SecretVaultModel", name := "readsAll", desc := "(LSecretVaultModel;)Z" } : Jvm.MethodName)) ∈ lw_all := lw_g (lw_at lw_m10 222 rfl) rfl
theorem q2449 : (Jvm.Cond.code ({ cls := "SecretVaultModel", name := "readsAll", desc := "(LSecretVaultModel;)Z" } : Jvm.MethodName) prog_27_method_74_code (2 : Nat) (Option.some Jvm.ClassFile.FieldType.boolean)) ∈ lw_all := lw_g (lw_at lw_m10 223 rfl) rfl
theorem q2450 : (Jvm.Cond.methodLink "SecretVaultModel" (236 : Nat) ({ cls := "SecretVaultModel", name := "readsPart", desc := "(LSecretVaultModel;)Z" } : Jvm.MethodName)) ∈ lw_all := lw_g (lw_at lw_m10 224 rfl) rfl
theorem q2451 : (Jvm.Cond.static ({ cls := "SecretVaultModel", name := "readsPart", desc := "(LSecretVaultModel;)Z" } : Jvm.MethodName)) ∈ lw_all := lw_g (lw_at lw_m10 225 rfl) rfl
theorem q2452 : (Jvm.Cond.code ({ cls := "SecretVaultModel", name := "readsPart", desc := "(LSecretVaultModel;)Z" } : Jvm.MethodName) prog_27_method_73_code (2 : Nat) (Option.some Jvm.ClassFile.FieldType.boolean)) ∈ lw_all := lw_g (lw_at lw_m10 226 rfl) rfl
theorem q2454 : (Jvm.Cond.instanceMethod ({ cls := "SecretVaultModel", name := "errorPosition", desc := "()I" } : Jvm.MethodName)) ∈ lw_all := lw_g (lw_at lw_m10 228 rfl) rfl
theorem q2455 : (Jvm.Cond.selects "SecretVaultModel" ({ cls := "SecretVaultModel", name := "errorPosition", desc := "()I" } : Jvm.MethodName) ({ cls := "SecretVaultModel", name := "errorPosition", desc := "()I" } : Jvm.MethodName)) ∈ lw_all := lw_g (lw_at lw_m10 229 rfl) rfl
theorem q2456 : (Jvm.Cond.code ({ cls := "SecretVaultModel", name := "errorPosition", desc := "()I" } : Jvm.MethodName) prog_27_method_77_code (1 : Nat) (Option.some Jvm.ClassFile.FieldType.int)) ∈ lw_all := lw_g (lw_at lw_m10 230 rfl) rfl
theorem q2458 : (Jvm.Cond.instanceMethod ({ cls := "SecretVaultModel", name := "fulfils", desc := "(II)Z" } : Jvm.MethodName)) ∈ lw_all := lw_g (lw_at lw_m10 232 rfl) rfl
theorem q2459 : (Jvm.Cond.selects "SecretVaultModel" ({ cls := "SecretVaultModel", name := "fulfils", desc := "(II)Z" } : Jvm.MethodName) ({ cls := "SecretVaultModel", name := "fulfils", desc := "(II)Z" } : Jvm.MethodName)) ∈ lw_all := lw_g (lw_at lw_m10 233 rfl) rfl
theorem q2460 : (Jvm.Cond.code ({ cls := "SecretVaultModel", name := "fulfils", desc := "(II)Z" } : Jvm.MethodName) prog_27_method_78_code (3 : Nat) (Option.some Jvm.ClassFile.FieldType.boolean)) ∈ lw_all := lw_g (lw_at lw_m10 234 rfl) rfl
theorem q2462 : (Jvm.Cond.instanceMethod ({ cls := "SecretVaultModel", name := "policyText", desc := "(II)I" } : Jvm.MethodName)) ∈ lw_all := lw_g (lw_at lw_m10 236 rfl) rfl
theorem q2463 : (Jvm.Cond.selects "SecretVaultModel" ({ cls := "SecretVaultModel", name := "policyText", desc := "(II)I" } : Jvm.MethodName) ({ cls := "SecretVaultModel", name := "policyText", desc := "(II)I" } : Jvm.MethodName)) ∈ lw_all := lw_g (lw_at lw_m10 237 rfl) rfl
theorem q2464 : (Jvm.Cond.code ({ cls := "SecretVaultModel", name := "policyText", desc := "(II)I" } : Jvm.MethodName) prog_27_method_82_code (3 : Nat) (Option.some Jvm.ClassFile.FieldType.int)) ∈ lw_all := lw_g (lw_at lw_m10 238 rfl) rfl
theorem q2465 : (Jvm.Cond.methodLink "SecretVaultModel" (242 : Nat) ({ cls := "SecretVaultModel", name := "writesPolicy", desc := "(LSecretVaultModel;III)V" } : Jvm.MethodName)) ∈ lw_all := lw_g (lw_at lw_m10 239 rfl) rfl
theorem q2466 : (Jvm.Cond.static ({ cls := "SecretVaultModel", name := "writesPolicy", desc := "(LSecretVaultModel;III)V" } : Jvm.MethodName)) ∈ lw_all := lw_g (lw_at lw_m11 0 rfl) rfl
theorem q2467 : (Jvm.Cond.code ({ cls := "SecretVaultModel", name := "writesPolicy", desc := "(LSecretVaultModel;III)V" } : Jvm.MethodName) prog_27_method_81_code (6 : Nat) (Option.none : Option Jvm.ClassFile.FieldType)) ∈ lw_all := lw_g (lw_at lw_m11 1 rfl) rfl
theorem q2468 : (Jvm.Cond.methodLink "SecretVaultModel" (246 : Nat) ({ cls := "SecretVaultModel", name := "writesAll", desc := "(LSecretVaultModel;IIIZ)V" } : Jvm.MethodName)) ∈ lw_all := lw_g (lw_at lw_m11 2 rfl) rfl
theorem q2469 : (Jvm.Cond.static ({ cls := "SecretVaultModel", name := "writesAll", desc := "(LSecretVaultModel;IIIZ)V" } : Jvm.MethodName)) ∈ lw_all := lw_g (lw_at lw_m11 3 rfl) rfl
theorem q2470 : (Jvm.Cond.code ({ cls := "SecretVaultModel", name := "writesAll", desc := "(LSecretVaultModel;IIIZ)V" } : Jvm.MethodName) prog_27_method_80_code (9 : Nat) (Option.none : Option Jvm.ClassFile.FieldType)) ∈ lw_all := lw_g (lw_at lw_m11 4 rfl) rfl
theorem q2471 : (Jvm.Cond.methodLink "SecretVaultModel" (250 : Nat) ({ cls := "SecretVaultModel", name := "writesPart", desc := "(LSecretVaultModel;IIIZ)V" } : Jvm.MethodName)) ∈ lw_all := lw_g (lw_at lw_m11 5 rfl) rfl
theorem q2472 : (Jvm.Cond.static ({ cls := "SecretVaultModel", name := "writesPart", desc := "(LSecretVaultModel;IIIZ)V" } : Jvm.MethodName)) ∈ lw_all := lw_g (lw_at lw_m11 6 rfl) rfl
theorem q2473 : (Jvm.Cond.code ({ cls := "SecretVaultModel", name := "writesPart", desc := "(LSecretVaultModel;IIIZ)V" } : Jvm.MethodName) prog_27_method_79_code (8 : Nat) (Option.none : Option Jvm.ClassFile.FieldType)) ∈ lw_all := lw_g (lw_at lw_m11 7 rfl) rfl
theorem q2475 : (Jvm.Cond.instanceMethod ({ cls := "SecretVaultModel", name := "policy", desc := "(II)I" } : Jvm.MethodName)) ∈ lw_all := lw_g (lw_at lw_m11 9 rfl) rfl
theorem q2476 : (Jvm.Cond.selects "SecretVaultModel" ({ cls := "SecretVaultModel", name := "policy", desc := "(II)I" } : Jvm.MethodName) ({ cls := "SecretVaultModel", name := "policy", desc := "(II)I" } : Jvm.MethodName)) ∈ lw_all := lw_g (lw_at lw_m11 10 rfl) rfl
theorem q2477 : (Jvm.Cond.code ({ cls := "SecretVaultModel", name := "policy", desc := "(II)I" } : Jvm.MethodName) prog_27_method_85_code (9 : Nat) (Option.some Jvm.ClassFile.FieldType.int)) ∈ lw_all := lw_g (lw_at lw_m11 11 rfl) rfl
theorem q2478 : (Jvm.Cond.methodLink "SecretVaultModel" (253 : Nat) ({ cls := "SecretVaultModel", name := "isDigitAt", desc := "(II)Z" } : Jvm.MethodName)) ∈ lw_all := lw_g (lw_at lw_m11 12 rfl) rfl
theorem q2479 : (Jvm.Cond.privateMethod ({ cls := "SecretVaultModel", name := "isDigitAt", desc := "(II)Z" } : Jvm.MethodName)) ∈ lw_tbl := lw_at lw_m11 13 rfl
theorem q2480 : (Jvm.Cond.instanceMethod ({ cls := "SecretVaultModel", name := "isDigitAt", desc := "(II)Z" } : Jvm.MethodName)) ∈ lw_all := lw_g (lw_at lw_m11 14 rfl) rfl
theorem q2481 : (Jvm.Cond.code ({ cls := "SecretVaultModel", name := "isDigitAt", desc := "(II)Z" } : Jvm.MethodName) prog_27_method_83_code (3 : Nat) (Option.some Jvm.ClassFile.FieldType.boolean)) ∈ lw_all := lw_g (lw_at lw_m11 15 rfl) rfl
theorem q2482 : (Jvm.Cond.methodLink "SecretVaultModel" (256 : Nat) ({ cls := "SecretVaultModel", name := "countsAround", desc := "(II)I" } : Jvm.MethodName)) ∈ lw_all := lw_g (lw_at lw_m11 16 rfl) rfl
theorem q2483 : (Jvm.Cond.privateMethod ({ cls := "SecretVaultModel", name := "countsAround", desc := "(II)I" } : Jvm.MethodName)) ∈ lw_tbl := lw_at lw_m11 17 rfl
theorem q2484 : (Jvm.Cond.instanceMethod ({ cls := "SecretVaultModel", name := "countsAround", desc := "(II)I" } : Jvm.MethodName)) ∈ lw_all := lw_g (lw_at lw_m11 18 rfl) rfl
theorem q2485 : (Jvm.Cond.code ({ cls := "SecretVaultModel", name := "countsAround", desc := "(II)I" } : Jvm.MethodName) prog_27_method_84_code (7 : Nat) (Option.some Jvm.ClassFile.FieldType.int)) ∈ lw_all := lw_g (lw_at lw_m11 19 rfl) rfl
theorem q2487 : (Jvm.Cond.instanceMethod ({ cls := "SecretVaultModel", name := "groups", desc := "(I)I" } : Jvm.MethodName)) ∈ lw_all := lw_g (lw_at lw_m11 21 rfl) rfl
theorem q2488 : (Jvm.Cond.selects "SecretVaultModel" ({ cls := "SecretVaultModel", name := "groups", desc := "(I)I" } : Jvm.MethodName) ({ cls := "SecretVaultModel", name := "groups", desc := "(I)I" } : Jvm.MethodName)) ∈ lw_all := lw_g (lw_at lw_m11 22 rfl) rfl
theorem q2489 : (Jvm.Cond.code ({ cls := "SecretVaultModel", name := "groups", desc := "(I)I" } : Jvm.MethodName) prog_27_method_86_code (5 : Nat) (Option.some Jvm.ClassFile.FieldType.int)) ∈ lw_all := lw_g (lw_at lw_m11 23 rfl) rfl
theorem q2491 : (Jvm.Cond.instanceMethod ({ cls := "SecretVaultModel", name := "smallest", desc := "(II)I" } : Jvm.MethodName)) ∈ lw_all := lw_g (lw_at lw_m11 25 rfl) rfl
theorem q2492 : (Jvm.Cond.selects "SecretVaultModel" ({ cls := "SecretVaultModel", name := "smallest", desc := "(II)I" } : Jvm.MethodName) ({ cls := "SecretVaultModel", name := "smallest", desc := "(II)I" } : Jvm.MethodName)) ∈ lw_all := lw_g (lw_at lw_m11 26 rfl) rfl
theorem q2493 : (Jvm.Cond.code ({ cls := "SecretVaultModel", name := "smallest", desc := "(II)I" } : Jvm.MethodName) prog_27_method_88_code (6 : Nat) (Option.some Jvm.ClassFile.FieldType.int)) ∈ lw_all := lw_g (lw_at lw_m11 27 rfl) rfl
theorem q2494 : (Jvm.Cond.methodLink "SecretVaultModel" (259 : Nat) ({ cls := "SecretVaultModel", name := "isSmallest", desc := "(II)Z" } : Jvm.MethodName)) ∈ lw_all := lw_g (lw_at lw_m11 28 rfl) rfl
theorem q2495 : (Jvm.Cond.privateMethod ({ cls := "SecretVaultModel", name := "isSmallest", desc := "(II)Z" } : Jvm.MethodName)) ∈ lw_tbl := lw_at lw_m11 29 rfl
theorem q2496 : (Jvm.Cond.instanceMethod ({ cls := "SecretVaultModel", name := "isSmallest", desc := "(II)Z" } : Jvm.MethodName)) ∈ lw_all := lw_g (lw_at lw_m11 30 rfl) rfl
theorem q2497 : (Jvm.Cond.code ({ cls := "SecretVaultModel", name := "isSmallest", desc := "(II)Z" } : Jvm.MethodName) prog_27_method_87_code (5 : Nat) (Option.some Jvm.ClassFile.FieldType.boolean)) ∈ lw_all := lw_g (lw_at lw_m11 31 rfl) rfl
theorem q2499 : (Jvm.Cond.instanceMethod ({ cls := "SecretVaultModel", name := "powerBits", desc := "(II)J" } : Jvm.MethodName)) ∈ lw_all := lw_g (lw_at lw_m11 33 rfl) rfl
theorem q2500 : (Jvm.Cond.selects "SecretVaultModel" ({ cls := "SecretVaultModel", name := "powerBits", desc := "(II)J" } : Jvm.MethodName) ({ cls := "SecretVaultModel", name := "powerBits", desc := "(II)J" } : Jvm.MethodName)) ∈ lw_all := lw_g (lw_at lw_m11 34 rfl) rfl
theorem q2501 : (Jvm.Cond.code ({ cls := "SecretVaultModel", name := "powerBits", desc := "(II)J" } : Jvm.MethodName) prog_27_method_89_code (5 : Nat) (Option.some Jvm.ClassFile.FieldType.long)) ∈ lw_all := lw_g (lw_at lw_m11 35 rfl) rfl
theorem q2502 : (Jvm.Cond.constantDouble "SecretVaultModel" (262 : Nat) (4638707616191610880 : UInt64)) ∈ lw_all := lw_g (lw_at lw_m11 36 rfl) rfl
theorem q2503 : (Jvm.Cond.methodLink "SecretVaultModel" (264 : Nat) ({ cls := "java/lang/Double", name := "doubleToLongBits", desc := "(D)J" } : Jvm.MethodName)) ∈ lw_all := lw_g (lw_at lw_m11 37 rfl) rfl
theorem q2505 : (Jvm.Cond.instanceMethod ({ cls := "SecretVaultModel", name := "healthBits", desc := "(I)I" } : Jvm.MethodName)) ∈ lw_all := lw_g (lw_at lw_m11 39 rfl) rfl
theorem q2506 : (Jvm.Cond.selects "SecretVaultModel" ({ cls := "SecretVaultModel", name := "healthBits", desc := "(I)I" } : Jvm.MethodName) ({ cls := "SecretVaultModel", name := "healthBits", desc := "(I)I" } : Jvm.MethodName)) ∈ lw_all := lw_g (lw_at lw_m11 40 rfl) rfl
theorem q2507 : (Jvm.Cond.code ({ cls := "SecretVaultModel", name := "healthBits", desc := "(I)I" } : Jvm.MethodName) prog_27_method_90_code (4 : Nat) (Option.some Jvm.ClassFile.FieldType.int)) ∈ lw_all := lw_g (lw_at lw_m11 41 rfl) rfl
theorem q2508 : (Jvm.Cond.methodLink "SecretVaultModel" (270 : Nat) ({ cls := "java/lang/Float", name := "floatToIntBits", desc := "(F)I" } : Jvm.MethodName)) ∈ lw_all := lw_g (lw_at lw_m11 42 rfl) rfl
theorem q2510 : (Jvm.Cond.instanceMethod ({ cls := "SecretVaultModel", name := "levels", desc := "()I" } : Jvm.MethodName)) ∈ lw_all := lw_g (lw_at lw_m11 44 rfl) rfl
theorem q2511 : (Jvm.Cond.selects "SecretVaultModel" ({ cls := "SecretVaultModel", name := "levels", desc := "()I" } : Jvm.MethodName) ({ cls := "SecretVaultModel", name := "levels", desc := "()I" } : Jvm.MethodName)) ∈ lw_all := lw_g (lw_at lw_m11 45 rfl) rfl
theorem q2512 : (Jvm.Cond.code ({ cls := "SecretVaultModel", name := "levels", desc := "()I" } : Jvm.MethodName) prog_27_method_91_code (1 : Nat) (Option.some Jvm.ClassFile.FieldType.int)) ∈ lw_all := lw_g (lw_at lw_m11 46 rfl) rfl
theorem q2514 : (Jvm.Cond.instanceMethod ({ cls := "SecretVaultModel", name := "report", desc := "(II)I" } : Jvm.MethodName)) ∈ lw_all := lw_g (lw_at lw_m11 48 rfl) rfl
theorem q2515 : (Jvm.Cond.selects "SecretVaultModel" ({ cls := "SecretVaultModel", name := "report", desc := "(II)I" } : Jvm.MethodName) ({ cls := "SecretVaultModel", name := "report", desc := "(II)I" } : Jvm.MethodName)) ∈ lw_all := lw_g (lw_at lw_m11 49 rfl) rfl
theorem q2516 : (Jvm.Cond.code ({ cls := "SecretVaultModel", name := "report", desc := "(II)I" } : Jvm.MethodName) prog_27_method_92_code (3 : Nat) (Option.some Jvm.ClassFile.FieldType.int)) ∈ lw_all := lw_g (lw_at lw_m11 50 rfl) rfl
theorem q2518 : (Jvm.Cond.instanceMethod ({ cls := "SecretVaultModel", name := "event", desc := "(I)I" } : Jvm.MethodName)) ∈ lw_all := lw_g (lw_at lw_m11 52 rfl) rfl
theorem q2519 : (Jvm.Cond.selects "SecretVaultModel" ({ cls := "SecretVaultModel", name := "event", desc := "(I)I" } : Jvm.MethodName) ({ cls := "SecretVaultModel", name := "event", desc := "(I)I" } : Jvm.MethodName)) ∈ lw_all := lw_g (lw_at lw_m11 53 rfl) rfl
theorem q2520 : (Jvm.Cond.code ({ cls := "SecretVaultModel", name := "event", desc := "(I)I" } : Jvm.MethodName) prog_27_method_93_code (2 : Nat) (Option.some Jvm.ClassFile.FieldType.int)) ∈ lw_all := lw_g (lw_at lw_m11 54 rfl) rfl
theorem q2522 : (Jvm.Cond.instanceMethod ({ cls := "SecretVaultModel", name := "save", desc := "()I" } : Jvm.MethodName)) ∈ lw_all := lw_g (lw_at lw_m11 56 rfl) rfl
theorem q2523 : (Jvm.Cond.selects "SecretVaultModel" ({ cls := "SecretVaultModel", name := "save", desc := "()I" } : Jvm.MethodName) ({ cls := "SecretVaultModel", name := "save", desc := "()I" } : Jvm.MethodName)) ∈ lw_all := lw_g (lw_at lw_m11 57 rfl) rfl
theorem q2524 : (Jvm.Cond.code ({ cls := "SecretVaultModel", name := "save", desc := "()I" } : Jvm.MethodName) prog_27_method_95_code (2 : Nat) (Option.some Jvm.ClassFile.FieldType.int)) ∈ lw_all := lw_g (lw_at lw_m11 58 rfl) rfl
theorem q2525 : (Jvm.Cond.methodLink "SecretVaultModel" (280 : Nat) ({ cls := "SecretVaultModel", name := "secrets", desc := "()I" } : Jvm.MethodName)) ∈ lw_all := lw_g (lw_at lw_m11 59 rfl) rfl
theorem q2526 : (Jvm.Cond.privateMethod ({ cls := "SecretVaultModel", name := "secrets", desc := "()I" } : Jvm.MethodName)) ∈ lw_tbl := lw_at lw_m11 60 rfl
theorem q2527 : (Jvm.Cond.instanceMethod ({ cls := "SecretVaultModel", name := "secrets", desc := "()I" } : Jvm.MethodName)) ∈ lw_all := lw_g (lw_at lw_m11 61 rfl) rfl
theorem q2528 : (Jvm.Cond.code ({ cls := "SecretVaultModel", name := "secrets", desc := "()I" } : Jvm.MethodName) prog_27_method_94_code (3 : Nat) (Option.some Jvm.ClassFile.FieldType.int)) ∈ lw_all := lw_g (lw_at lw_m11 62 rfl) rfl
theorem q2530 : (Jvm.Cond.instanceMethod ({ cls := "SecretVaultModel", name := "restore", desc := "()I" } : Jvm.MethodName)) ∈ lw_all := lw_g (lw_at lw_m11 64 rfl) rfl
theorem q2531 : (Jvm.Cond.selects "SecretVaultModel" ({ cls := "SecretVaultModel", name := "restore", desc := "()I" } : Jvm.MethodName) ({ cls := "SecretVaultModel", name := "restore", desc := "()I" } : Jvm.MethodName)) ∈ lw_all := lw_g (lw_at lw_m11 65 rfl) rfl
theorem q2532 : (Jvm.Cond.code ({ cls := "SecretVaultModel", name := "restore", desc := "()I" } : Jvm.MethodName) prog_27_method_96_code (2 : Nat) (Option.some Jvm.ClassFile.FieldType.int)) ∈ lw_all := lw_g (lw_at lw_m11 66 rfl) rfl
theorem q2574 : (Jvm.Cond.castable "SecretVaultModel" "java/lang/Object") ∈ lw_tbl := lw_at lw_m11 108 rfl
theorem in_X3 : ∀ w ∈ wsX30, w ∈ lw_all := lw_in wsX30 [2119, 2121, 2123, 2125, 2127, 2129, 2131, 2133, 2135, 2137, 2139, 2141, 2143, 2145, 2147, 2149, 2151, 2153, 2155, 2157, 2159, 2161] (by decide +kernel) (by decide +kernel)
